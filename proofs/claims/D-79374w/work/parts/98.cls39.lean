/-! CLASS 39: a test, added -/
set_option maxRecDepth 100000
def oP5 (p : Nat) : Nat → Prop := fun o => oP p o ∨ o = 5
/-- refused, for v; more is known of the heap -/
def xRefO (g : xG) (x : Nat) (O : Nat → Prop) (N : Nat) (v : Nat × Int32) (E : xG → Prop) (rs : Option Value ⊕ Nat) (g' : xG) : Prop := ∃ q, rs = .inr q ∧ xtag g' q = 26 ∧ xown g' q = 9 ∧ xFr (fun o => o = 1 ∨ O o) N g g' ∧ xi g' x 4 = nI v.1 ∧ xi g' x 5 = v.2 ∧ (∀ j, j ≠ 4 → j ≠ 5 → xi g' x j = xi g x j) ∧ (∀ j, xr g' x j = xr g x j) ∧ E g'
theorem xRefO_up {g : xG} {x : Nat} {O : Nat → Prop} {N : Nat} {E : xG → Prop} {v : Nat × Int32} (rs : Option Value ⊕ Nat) (g' : xG) (h : xRefO g x O N v E rs g') : xUp rs g' := by
  obtain ⟨q, e, h1, h2, -⟩ := h
  exact ⟨q, e, by omega, by omega, by omega⟩
theorem xExc.fr {O : Nat → Prop} {N t : Nat} {g0 g : xG} (h : xFr O N g0 g) : xFr O (N + 7) g0 (xExc g t) := h.exc
theorem SP_X1_refuse_O {d : Nat} {g g0 : xG} {x wq N : Nat} {O : Nat → Prop} {v : Nat × Int32} {E : xG → Prop} (h : xWy g wq v) (hv : v.1 ≠ 0) (hx : xtag g0 x = 1) (hxo : xown g0 x = 1) (F : xFr O N g0 g) (hO : ¬ O 1) (hE : ∀ g', xFr (oEq 1) 10 g g' → E g') : XM M_X1_refuse (d + 6) [.ref x, .ref wq] g (xRefO g0 x O (N + 10) v E) := by
  rcases h.2.2.2 with q | ⟨-, w, w1, w2, w3, w4, w5⟩
  · exact absurd q.1 hv
  have hxl : x < xsz g0 := xlt (by rw [hx]; decide)
  have nx : ¬ O (xown g0 x) := by rw [hxo]; exact hO
  have tx : xtag g x = 1 := (F.tag hxl).trans hx
  have ox : xown g x = 1 := (F.own hxl).trans hxo
  refine (SP_X1_refuse_F (d := d) tx (by rw [ox]; decide) h.1 w1 w2).mono (fun rs g' hp _ => ?_)
  obtain ⟨rfl, rfl⟩ := hp
  have F2 : xFr (fun o => o = 1 ∨ O o) N g0 (xsetI (xsetI g x 4 (xi g w 0)) x 5 (xi g w 1)) := ((F.sub (O' := fun o => o = 1 ∨ O o) (fun o h1 => Or.inr h1) (Nat.le_refl _)).si (Or.inr (Or.inl ox))).si (Or.inr (Or.inl (by rw [xown_setI]; exact ox)))
  have F3 : xFr (oEq 1) 10 g (xExc (xsetI (xsetI g x 4 (xi g w 0)) x 5 (xi g w 1)) 26) := ((((xFr.rf (n := 0)).si (Or.inr ox)).si (Or.inr (by rw [xown_setI]; exact ox))).exc).sub (fun _ h => h) (by omega)
  have tn : xtag g x ≠ 0 := by rw [tx]; decide
  have hc : xc (xExc (xsetI (xsetI g x 4 (xi g w 0)) x 5 (xi g w 1)) 26) x = xc (xsetI (xsetI g x 4 (xi g w 0)) x 5 (xi g w 1)) x := xExc_c (show x < xsz g from F.lt hxl)
  refine ⟨xsz g, rfl, xExc_tag (g := xsetI (xsetI g x 4 (xi g w 0)) x 5 (xi g w 1)), xExc_own (g := xsetI (xsetI g x 4 (xi g w 0)) x 5 (xi g w 1)), F2.exc.sub (fun _ h => h) (by omega), ?_, ?_, fun j h4 h5 => ?_, fun j => ?_, hE _ F3⟩
  · rw [xi_of hc, xi_setIK (by decide), xi_setIS tn]; exact w4
  · rw [xi_of hc, xi_setIS (by rw [xtag_setI]; exact tn)]; exact w5
  · rw [xi_of hc, xi_setIK h5, xi_setIK h4]; exact F.i' hxl nx
  · rw [xr_of hc, xr_setI, xr_setI]; exact F.r' hxl nx
/-- a test's three ints -/
def u1 (f sg dg : Int32) : Nat → Int32 := fun j => if j = 0 then f else if j = 1 then sg else dg
theorem x_castT {t : Nat} (h1 : 10 ≤ t) (h2 : t ≤ 13) : xcls t = true ∧ Cond.castable (xnm t) "PolicyNotation$Test" ∈ lw_tbl := by
  have h : t = 10 ∨ t = 11 ∨ t = 12 ∨ t = 13 := by omega
  rcases h with h | h | h | h <;> subst h <;> refine ⟨rfl, ?_⟩ <;> (first | exact q2790 | exact q2792 | exact q2791 | exact q2793)
theorem SP_X1_test_F {d : Nat} {g : xG} {x p lk fa ka la n rr ww : Nat} {Z : xAd} {S : xMS} (hM : xMn g x p lk fa ka la Z S n rr ww) {v a b c : Int32} (hv : ¬ inR v (nI 0) (nI rr - nI 1) = true) : XM M_X1_test (d + 80) [.ref x, .int v, .int a, .int b, .int c] g (xThr (xsz g) (xExc g 23)) := by
  have hlr := hM.P.lr
  have r16 := hM.P.wf.r16
  refine xm_of (by decide +kernel) (Nat.le_of_ble_eq_true rfl) ?_
  show XW _ _ 0 [(0, _), (1, _), (2, _), (3, _), (4, _)] [] _ _
  refine xw_aload_n (pc := 0) dX1_test_0 0 rfl ?_
  refine xw_getS (b := p) (pc := 1) fd_X1_10 dX1_test_1 (by first | assumption | (simp [-List.getD_eq_getElem?_getD, xE_setI, xsz_setI, xsl_setI, xtag_setI, xown_setI, xlen_setI, xE_setR, xsz_setR, xsl_setR, xtag_setR, xown_setR, xlen_setR, xE_setW, xsz_setW, xsl_setW, xtag_setW, xown_setW, xlen_setW, xi_setR, xi_setW, xr_setI, xr_setW, xww_setI, xww_setR, xi_setI, xr_setR, xww_setW, xE_new, xsz_new, xsl_new, hM.tx, hM.xp, hM.l3, xsub]; done) | (simp [-List.getD_eq_getElem?_getD, xE_setI, xsz_setI, xsl_setI, xtag_setI, xown_setI, xlen_setI, xE_setR, xsz_setR, xsl_setR, xtag_setR, xown_setR, xlen_setR, xE_setW, xsz_setW, xsl_setW, xtag_setW, xown_setW, xlen_setW, xi_setR, xi_setW, xr_setI, xr_setW, xww_setI, xww_setR, xi_setI, xr_setR, xww_setW, xE_new, xsz_new, xsl_new, hM.tx, hM.xp, hM.l3] <;> rfl)) (by simp [-List.getD_eq_getElem?_getD, xE_setI, xsz_setI, xsl_setI, xtag_setI, xown_setI, xlen_setI, xE_setR, xsz_setR, xsl_setR, xtag_setR, xown_setR, xlen_setR, xE_setW, xsz_setW, xsl_setW, xtag_setW, xown_setW, xlen_setW, xi_setR, xi_setW, xr_setI, xr_setW, xww_setI, xww_setR, xi_setI, xr_setR, xww_setW, xE_new, xsz_new, xsl_new, hM.tx, hM.xp, hM.l3]) ?_
  refine xw_iload_n (pc := 4) dX1_test_4 1 rfl ?_
  refine xw_callX (pc := 5) (xr_V (as := [_]) ok_X2_rule rfl (by decide) q1338 q1339 q1340 (by rw [hM.P.tag]; rfl) (by rw [hM.P.tag]; rfl) dX1_test_5 rfl rfl (Nat.le_of_ble_eq_true rfl)) (SP_X2_rule_F hM.P.pl v (by rw [hlr]; exact hv)) ?_
  exact xx_out0 rfl (by rw [xExc_tag]; decide) (by rw [xExc_tag]; decide) (by rw [xExc_own]; decide) ⟨rfl, rfl⟩

theorem SP_X1_test_F2 {d : Nat} {g : xG} {x p lk fa ka la n rr ww : Nat} {Z : xAd} {S : xMS} (hM : xMn g x p lk fa ka la Z S n rr ww) {r : Nat} {a b c : Int32} (hr : r < rr) (hx : okTest a b c = false) : XM M_X1_test (d + 80) [.ref x, .int (nI r), .int a, .int b, .int c] g (xThr (xsz g) (xExc g 22)) := by
  have hlr := hM.P.lr
  have r16 := hM.P.wf.r16
  unfold okTest at hx
  refine xm_of (by decide +kernel) (Nat.le_of_ble_eq_true rfl) ?_
  show XW _ _ 0 [(0, _), (1, _), (2, _), (3, _), (4, _)] [] _ _
  refine xw_aload_n (pc := 0) dX1_test_0 0 rfl ?_
  refine xw_getS (b := p) (pc := 1) fd_X1_10 dX1_test_1 (by first | assumption | (simp [-List.getD_eq_getElem?_getD, xE_setI, xsz_setI, xsl_setI, xtag_setI, xown_setI, xlen_setI, xE_setR, xsz_setR, xsl_setR, xtag_setR, xown_setR, xlen_setR, xE_setW, xsz_setW, xsl_setW, xtag_setW, xown_setW, xlen_setW, xi_setR, xi_setW, xr_setI, xr_setW, xww_setI, xww_setR, xi_setI, xr_setR, xww_setW, xE_new, xsz_new, xsl_new, hM.tx, hM.xp, hM.l3, xsub]; done) | (simp [-List.getD_eq_getElem?_getD, xE_setI, xsz_setI, xsl_setI, xtag_setI, xown_setI, xlen_setI, xE_setR, xsz_setR, xsl_setR, xtag_setR, xown_setR, xlen_setR, xE_setW, xsz_setW, xsl_setW, xtag_setW, xown_setW, xlen_setW, xi_setR, xi_setW, xr_setI, xr_setW, xww_setI, xww_setR, xi_setI, xr_setR, xww_setW, xE_new, xsz_new, xsl_new, hM.tx, hM.xp, hM.l3] <;> rfl)) (by simp [-List.getD_eq_getElem?_getD, xE_setI, xsz_setI, xsl_setI, xtag_setI, xown_setI, xlen_setI, xE_setR, xsz_setR, xsl_setR, xtag_setR, xown_setR, xlen_setR, xE_setW, xsz_setW, xsl_setW, xtag_setW, xown_setW, xlen_setW, xi_setR, xi_setW, xr_setI, xr_setW, xww_setI, xww_setR, xi_setI, xr_setR, xww_setW, xE_new, xsz_new, xsl_new, hM.tx, hM.xp, hM.l3]) ?_
  refine xw_iload_n (pc := 4) dX1_test_4 1 rfl ?_
  refine xw_callV (pc := 5) (xr_V (as := [_]) ok_X2_rule rfl (by decide) q1338 q1339 q1340 (by rw [hM.P.tag]; rfl) (by rw [hM.P.tag]; rfl) dX1_test_5 rfl rfl (Nat.le_of_ble_eq_true rfl)) (SP_X2_rule hM.P.pl r (by omega) (hM.P.ru hr).1) ?_
  refine xw_astore (l' := [(5, _), (0, _), (1, _), (2, _), (3, _), (4, _)]) (pc := 8) dX1_test_8 (by decide) rfl ?_
  refine xw_iload_n (pc := 10) dX1_test_10 3 rfl ?_
  refine xw_iconst (v := nI 0) (pc := 11) dX1_test_11 rfl ?_
  refine xw_iconst (v := nI 5) (pc := 12) dX1_test_12 rfl ?_
  refine xw_callV (pc := 13) (xr_S (as := [_, _, _]) ok_X1_isIn rfl (by decide) q1180 q784 dX1_test_13 rfl rfl (Nat.le_of_ble_eq_true rfl)) (SP_X1_isIn (v := a) (lo := nI 0) (hi := nI 5)) ?_
  refine xw_if_eq (pc := 16) 43 dX1_test_16 rfl (fun hb16 => ?_) (fun hb16 => ?_)
  · replace hb16 := bI_0.mp hb16
    refine xw_iconst (v := nI 0) (pc := 43) dX1_test_43 rfl ?_
    refine xw_callX (pc := 44) (xr_S (as := [_]) ok_X1_check rfl (by decide) q1181 q1182 dX1_test_44 rfl rfl (Nat.le_of_ble_eq_true rfl)) (SP_X1_check_F) ?_
    exact xx_out0 rfl (by rw [xExc_tag]; decide) (by rw [xExc_tag]; decide) (by rw [xExc_own]; decide) ⟨rfl, rfl⟩
  · replace hb16 := bI_n0.mp hb16
    refine xw_iload_n (pc := 19) dX1_test_19 4 rfl ?_
    refine xw_iconst (v := nI 0) (pc := 20) dX1_test_20 rfl ?_
    refine xw_iconst (v := nI 3) (pc := 21) dX1_test_21 rfl ?_
    refine xw_callV (pc := 22) (xr_S (as := [_, _, _]) ok_X1_isIn rfl (by decide) q1180 q784 dX1_test_22 rfl rfl (Nat.le_of_ble_eq_true rfl)) (SP_X1_isIn (v := b) (lo := nI 0) (hi := nI 3)) ?_
    refine xw_if_eq (pc := 25) 43 dX1_test_25 rfl (fun hb25 => ?_) (fun hb25 => ?_)
    · replace hb25 := bI_0.mp hb25
      refine xw_iconst (v := nI 0) (pc := 43) dX1_test_43 rfl ?_
      refine xw_callX (pc := 44) (xr_S (as := [_]) ok_X1_check rfl (by decide) q1181 q1182 dX1_test_44 rfl rfl (Nat.le_of_ble_eq_true rfl)) (SP_X1_check_F) ?_
      exact xx_out0 rfl (by rw [xExc_tag]; decide) (by rw [xExc_tag]; decide) (by rw [xExc_own]; decide) ⟨rfl, rfl⟩
    · replace hb25 := bI_n0.mp hb25
      refine xw_iload (pc := 28) dX1_test_28 5 rfl ?_
      refine xw_iconst (v := nI 0) (pc := 30) dX1_test_30 rfl ?_
      refine xw_bipush (v := nI 9) (pc := 31) dX1_test_31 (by decide +kernel) ?_
      refine xw_callV (pc := 33) (xr_S (as := [_, _, _]) ok_X1_isIn rfl (by decide) q1180 q784 dX1_test_33 rfl rfl (Nat.le_of_ble_eq_true rfl)) (SP_X1_isIn (v := c) (lo := nI 0) (hi := nI 9)) ?_
      refine xw_if_eq (pc := 36) 43 dX1_test_36 rfl (fun hb36 => ?_) (fun hb36 => ?_)
      rotate_left
      · exfalso
        replace hb36 := bI_n0.mp hb36
        rw [hb16, hb25, hb36] at hx
        exact absurd hx (by decide)
      replace hb36 := bI_0.mp hb36
      refine xw_iconst (v := nI 0) (pc := 43) dX1_test_43 rfl ?_
      refine xw_callX (pc := 44) (xr_S (as := [_]) ok_X1_check rfl (by decide) q1181 q1182 dX1_test_44 rfl rfl (Nat.le_of_ble_eq_true rfl)) (SP_X1_check_F) ?_
      exact xx_out0 rfl (by rw [xExc_tag]; decide) (by rw [xExc_tag]; decide) (by rw [xExc_own]; decide) ⟨rfl, rfl⟩

theorem SP_X1_test {d : Nat} {g : xG} {x p lk fa ka la n rr ww : Nat} {Z : xAd} {S : xMS} (hM : xMn g x p lk fa ka la Z S n rr ww) {dq da h : Nat} {ps : List Nat} (hPa : xr g x 2 = some dq ∧ xAD g 7 dq da h ps ∧ True ∧ ps.length ≤ 8) {r f sg dg : Nat} (hr : r < rr) (hf : f < 6) (hs : sg < 4) (hd : dg < 10) (hv : (hindT (FAc (S 1) r (aT Z r).length (u1 (nI f) (nI sg) (nI dg)) 1) ((aT Z r).length + 1)).1 = 0) : XM M_X1_test (d + 80) [.ref x, .int (nI r), .int (nI f), .int (nI sg), .int (nI dg)] g (xVal (.int (nI ((aT Z r).length + 1))) (xChd g p dq da (S 1) ps (tsUp (S 1) r (aT Z r).length (u1 (nI f) (nI sg) (nI dg)) 1) n rr ww)) := by
  have hlr := hM.P.lr
  have r16 := hM.P.wf.r16
  have h0 : inR (nI f) (nI 0) (nI 5) = true := inR_nat' (by decide) (by omega)
  have h1 : inR (nI sg) (nI 0) (nI 3) = true := inR_nat' (by decide) (by omega)
  have h2 : inR (nI dg) (nI 0) (nI 9) = true := inR_nat' (by decide) (by omega)
  refine xm_of (by decide +kernel) (Nat.le_of_ble_eq_true rfl) ?_
  show XW _ _ 0 [(0, _), (1, _), (2, _), (3, _), (4, _)] [] _ _
  refine xw_aload_n (pc := 0) dX1_test_0 0 rfl ?_
  refine xw_getS (b := p) (pc := 1) fd_X1_10 dX1_test_1 (by first | assumption | (simp [-List.getD_eq_getElem?_getD, xE_setI, xsz_setI, xsl_setI, xtag_setI, xown_setI, xlen_setI, xE_setR, xsz_setR, xsl_setR, xtag_setR, xown_setR, xlen_setR, xE_setW, xsz_setW, xsl_setW, xtag_setW, xown_setW, xlen_setW, xi_setR, xi_setW, xr_setI, xr_setW, xww_setI, xww_setR, xi_setI, xr_setR, xww_setW, xE_new, xsz_new, xsl_new, hM.tx, hM.xp, hM.l3, xsub]; done) | (simp [-List.getD_eq_getElem?_getD, xE_setI, xsz_setI, xsl_setI, xtag_setI, xown_setI, xlen_setI, xE_setR, xsz_setR, xsl_setR, xtag_setR, xown_setR, xlen_setR, xE_setW, xsz_setW, xsl_setW, xtag_setW, xown_setW, xlen_setW, xi_setR, xi_setW, xr_setI, xr_setW, xww_setI, xww_setR, xi_setI, xr_setR, xww_setW, xE_new, xsz_new, xsl_new, hM.tx, hM.xp, hM.l3] <;> rfl)) (by simp [-List.getD_eq_getElem?_getD, xE_setI, xsz_setI, xsl_setI, xtag_setI, xown_setI, xlen_setI, xE_setR, xsz_setR, xsl_setR, xtag_setR, xown_setR, xlen_setR, xE_setW, xsz_setW, xsl_setW, xtag_setW, xown_setW, xlen_setW, xi_setR, xi_setW, xr_setI, xr_setW, xww_setI, xww_setR, xi_setI, xr_setR, xww_setW, xE_new, xsz_new, xsl_new, hM.tx, hM.xp, hM.l3]) ?_
  refine xw_iload_n (pc := 4) dX1_test_4 1 rfl ?_
  refine xw_callV (pc := 5) (xr_V (as := [_]) ok_X2_rule rfl (by decide) q1338 q1339 q1340 (by rw [hM.P.tag]; rfl) (by rw [hM.P.tag]; rfl) dX1_test_5 rfl rfl (Nat.le_of_ble_eq_true rfl)) (SP_X2_rule hM.P.pl r (by omega) (hM.P.ru hr).1) ?_
  refine xw_astore (l' := [(5, _), (0, _), (1, _), (2, _), (3, _), (4, _)]) (pc := 8) dX1_test_8 (by decide) rfl ?_
  refine xw_iload_n (pc := 10) dX1_test_10 3 rfl ?_
  refine xw_iconst (v := nI 0) (pc := 11) dX1_test_11 rfl ?_
  refine xw_iconst (v := nI 5) (pc := 12) dX1_test_12 rfl ?_
  refine xw_callV (pc := 13) (xr_S (as := [_, _, _]) ok_X1_isIn rfl (by decide) q1180 q784 dX1_test_13 rfl rfl (Nat.le_of_ble_eq_true rfl)) (SP_X1_isInT h0) ?_
  refine xw_if_eq (pc := 16) 43 dX1_test_16 rfl (fun hb => absurd hb (by decide)) (fun _ => ?_)
  refine xw_iload_n (pc := 19) dX1_test_19 4 rfl ?_
  refine xw_iconst (v := nI 0) (pc := 20) dX1_test_20 rfl ?_
  refine xw_iconst (v := nI 3) (pc := 21) dX1_test_21 rfl ?_
  refine xw_callV (pc := 22) (xr_S (as := [_, _, _]) ok_X1_isIn rfl (by decide) q1180 q784 dX1_test_22 rfl rfl (Nat.le_of_ble_eq_true rfl)) (SP_X1_isInT h1) ?_
  refine xw_if_eq (pc := 25) 43 dX1_test_25 rfl (fun hb => absurd hb (by decide)) (fun _ => ?_)
  refine xw_iload (pc := 28) dX1_test_28 5 rfl ?_
  refine xw_iconst (v := nI 0) (pc := 30) dX1_test_30 rfl ?_
  refine xw_bipush (v := nI 9) (pc := 31) dX1_test_31 (by decide +kernel) ?_
  refine xw_callV (pc := 33) (xr_S (as := [_, _, _]) ok_X1_isIn rfl (by decide) q1180 q784 dX1_test_33 rfl rfl (Nat.le_of_ble_eq_true rfl)) (SP_X1_isInT h2) ?_
  refine xw_if_eq (pc := 36) 43 dX1_test_36 rfl (fun hb => absurd hb (by decide)) (fun _ => ?_)
  refine xw_iconst (v := nI 1) (pc := 39) dX1_test_39 rfl ?_
  refine xw_goto (pc := 40) 44 dX1_test_40 rfl ?_
  refine xw_callU (pc := 44) (xr_S (as := [_]) ok_X1_check rfl (by decide) q1181 q1182 dX1_test_44 rfl rfl (Nat.le_of_ble_eq_true rfl)) (SP_X1_check_T) ?_
  refine xw_aload_n (pc := 47) dX1_test_47 1 rfl ?_
  refine xw_getS (b := p) (pc := 48) fd_X1_10 dX1_test_48 (by first | assumption | (simp [-List.getD_eq_getElem?_getD, xE_setI, xsz_setI, xsl_setI, xtag_setI, xown_setI, xlen_setI, xE_setR, xsz_setR, xsl_setR, xtag_setR, xown_setR, xlen_setR, xE_setW, xsz_setW, xsl_setW, xtag_setW, xown_setW, xlen_setW, xi_setR, xi_setW, xr_setI, xr_setW, xww_setI, xww_setR, xi_setI, xr_setR, xww_setW, xE_new, xsz_new, xsl_new, hM.tx, hM.xp, hM.l3, xsub]; done) | (simp [-List.getD_eq_getElem?_getD, xE_setI, xsz_setI, xsl_setI, xtag_setI, xown_setI, xlen_setI, xE_setR, xsz_setR, xsl_setR, xtag_setR, xown_setR, xlen_setR, xE_setW, xsz_setW, xsl_setW, xtag_setW, xown_setW, xlen_setW, xi_setR, xi_setW, xr_setI, xr_setW, xww_setI, xww_setR, xi_setI, xr_setR, xww_setW, xE_new, xsz_new, xsl_new, hM.tx, hM.xp, hM.l3] <;> rfl)) (by simp [-List.getD_eq_getElem?_getD, xE_setI, xsz_setI, xsl_setI, xtag_setI, xown_setI, xlen_setI, xE_setR, xsz_setR, xsl_setR, xtag_setR, xown_setR, xlen_setR, xE_setW, xsz_setW, xsl_setW, xtag_setW, xown_setW, xlen_setW, xi_setR, xi_setW, xr_setI, xr_setW, xww_setI, xww_setR, xi_setI, xr_setR, xww_setW, xE_new, xsz_new, xsl_new, hM.tx, hM.xp, hM.l3]) ?_
  refine xw_callF (pc := 51) (xr_V (as := []) ok_X2_copy rfl (by decide) q902 q903 q904 (by rw [hM.P.tag]; rfl) (by rw [hM.P.tag]; rfl) dX1_test_51 rfl rfl (Nat.le_of_ble_eq_true rfl)) (SP_X2_copy (d := d + 70) hM.P) ?_
  intro g51 hc51 hm51
  obtain ⟨Zq, hPq, FC⟩ := hc51
  have hp0 := hM.P.p0
  have hlp := hM.P.lt
  have hxl : x < xsz g := xlt (by rw [hM.tx]; decide)
  have nxC : ¬ oP (xsz g) (xown g x) := by rw [hM.ox]; unfold oP; omega
  have oKC : oKeep (oP (xsz g)) := by unfold oKeep oP; omega
  have hP2 := hM.P.fr FC (fun o h1 h2 => by unfold oP at h1 h2; omega) (by unfold oP; omega)
  have hMc := hM.fr FC oKC hP2
  have hDc := hPa.2.1.fr FC (by unfold oP; omega)
  have txC : xtag g51 x = 1 := hMc.tx
  refine xw_astore (l' := [(6, _), (5, _), (0, _), (1, _), (2, _), (3, _), (4, _)]) (pc := 54) dX1_test_54 (by decide) rfl ?_
  refine xw_aload_n (pc := 56) dX1_test_56 2 rfl ?_
  refine xw_aload_n (pc := 57) dX1_test_57 2 rfl ?_
  refine xw_aload (pc := 58) dX1_test_58 1 rfl ?_
  refine xw_iconst (v := nI 1) (pc := 60) dX1_test_60 rfl ?_
  refine xw_anew (q := 8) (n := 1) (pc := 61) 2 dX1_test_61 (by decide) (by decide) rfl q656 (by decide) (by first | decide | assumption | omega) rfl (by omega) ?_
  refine xw_at (a := (xsz g51)) (by rfl) ?_
  refine xw_dup (pc := 64) dX1_test_64 rfl ?_
  refine xw_iconst (v := nI 0) (pc := 65) dX1_test_65 rfl ?_
  refine xw_iload_n (pc := 66) dX1_test_66 4 rfl ?_
  refine xw_iload_n (pc := 67) dX1_test_67 5 rfl ?_
  refine xw_iload (pc := 68) dX1_test_68 6 rfl ?_
  refine xw_callF (pc := 70) (xr_S (as := [_, _, _]) ok_X1_testBy rfl (by decide) q1372 q1373 dX1_test_70 rfl rfl (Nat.le_of_ble_eq_true rfl)) (SP_X1_testBy sg hs) ?_
  intro g70 hc70 hm70
  have tA0 : xtag (xNew g51 (xBlank 109 2 1) 1) (xsz g51) = 109 := by rw [xtag_newS rfl]; rfl
  have hlA : xsz g51 < xsz (xNew g51 (xBlank 109 2 1) 1) := Nat.lt_succ_self _
  have tA70 : xtag g70 (xsz g51) = 109 := (hc70.2.2.2.2.tag hlA).trans tA0
  have oA70 : xown g70 (xsz g51) = 2 := (hc70.2.2.2.2.own hlA).trans (by rw [xown_newS rfl]; rfl)
  have lA70 : xlen g70 (xsz g51) = 1 := (hc70.2.2.2.2.len hlA).trans (by rw [xlen_newS rfl]; rfl)
  have F70 : xFr oNo (2 + 3) g51 g70 := ((xFr.rf (n := 0)).nw (c := xBlank 109 2 1) (k := 1)).tr hc70.2.2.2.2
  refine xw_aast (q := 8) (k := 0) (pc := 73) dX1_test_73 (by simp [-List.getD_eq_getElem?_getD, xE_setI, xsz_setI, xsl_setI, xtag_setI, xown_setI, xlen_setI, xE_setR, xsz_setR, xsl_setR, xtag_setR, xown_setR, xlen_setR, xE_setW, xsz_setW, xsl_setW, xtag_setW, xown_setW, xlen_setW, xi_setR, xi_setW, xr_setI, xr_setW, xww_setI, xww_setR, xi_setI, xr_setR, xww_setW, xE_new, xsz_new, xsl_new, hM.tx, hM.xp, hM.l3, txC, tA70, oA70, lA70]) (by decide) (by decide) rfl (by first | assumption | (simp [-List.getD_eq_getElem?_getD, xE_setI, xsz_setI, xsl_setI, xtag_setI, xown_setI, xlen_setI, xE_setR, xsz_setR, xsl_setR, xtag_setR, xown_setR, xlen_setR, xE_setW, xsz_setW, xsl_setW, xtag_setW, xown_setW, xlen_setW, xi_setR, xi_setW, xr_setI, xr_setW, xww_setI, xww_setR, xi_setI, xr_setR, xww_setW, xE_new, xsz_new, xsl_new, hM.tx, hM.xp, hM.l3, txC, tA70, oA70, lA70]; done) | (simp [-List.getD_eq_getElem?_getD, xE_setI, xsz_setI, xsl_setI, xtag_setI, xown_setI, xlen_setI, xE_setR, xsz_setR, xsl_setR, xtag_setR, xown_setR, xlen_setR, xE_setW, xsz_setW, xsl_setW, xtag_setW, xown_setW, xlen_setW, xi_setR, xi_setW, xr_setI, xr_setW, xww_setI, xww_setR, xi_setI, xr_setR, xww_setW, xE_new, xsz_new, xsl_new, hM.tx, hM.xp, hM.l3, txC, tA70, oA70, lA70]; assumption)) rfl (by rw [lA70]; decide) (by rw [hc70.1]; exact (x_castT (by omega) (by omega)).1) (by rw [hc70.1]; exact (x_castT (by omega) (by omega)).2) ?_
  have FB : xFr oNo 5 g51 (xsetR g70 (xsz g51) 0 (some (xsz (xNew g51 (xBlank 109 2 1) 1)))) := F70.sr (Or.inl (Nat.le_refl _))
  have hPB := hP2.fr FB (fun o _ h => h) (fun h => h)
  have oKN : oKeep oNo := by unfold oKeep oNo; simp
  have hMB := hMc.fr (S' := S) FB oKN hPB
  have hTB := (hPB.ru hr).2.2.2.2.2.2.2.2.2.1
  have tT : xtag (xsetR g70 (xsz g51) 0 (some (xsz (xNew g51 (xBlank 109 2 1) 1)))) (xsz (xNew g51 (xBlank 109 2 1) 1)) = 10 + sg := by rw [xtag_setR]; exact hc70.1
  have oT : xown (xsetR g70 (xsz g51) 0 (some (xsz (xNew g51 (xBlank 109 2 1) 1)))) (xsz (xNew g51 (xBlank 109 2 1) 1)) = 2 := by rw [xown_setR]; exact hc70.2.1
  have xT0 : xi (xsetR g70 (xsz g51) 0 (some (xsz (xNew g51 (xBlank 109 2 1) 1)))) (xsz (xNew g51 (xBlank 109 2 1) 1)) 0 = nI f := by rw [xi_setR]; exact hc70.2.2.1
  have xT1 : xi (xsetR g70 (xsz g51) 0 (some (xsz (xNew g51 (xBlank 109 2 1) 1)))) (xsz (xNew g51 (xBlank 109 2 1) 1)) 1 = nI dg := by rw [xi_setR]; exact hc70.2.2.2.1
  have huB : ∀ k, k < [(xsz (xNew g51 (xBlank 109 2 1) 1))].length → xTe (xsetR g70 (xsz g51) 0 (some (xsz (xNew g51 (xBlank 109 2 1) 1)))) ([(xsz (xNew g51 (xBlank 109 2 1) 1))].getD k 0) (u1 (nI f) (nI sg) (nI dg)) (3 * k) := fun k hk => by
    have e : k = 0 := by simpa using hk
    subst e
    exact ⟨by show 10 ≤ xtag (xsetR g70 (xsz g51) 0 (some (xsz (xNew g51 (xBlank 109 2 1) 1)))) (xsz (xNew g51 (xBlank 109 2 1) 1)); rw [tT]; omega, by show xtag (xsetR g70 (xsz g51) 0 (some (xsz (xNew g51 (xBlank 109 2 1) 1)))) (xsz (xNew g51 (xBlank 109 2 1) 1)) ≤ 13; rw [tT]; omega, oT, isN_nI (v := f) rfl hf (by omega), isN_nI (v := sg) rfl hs (by omega), isN_nI (v := dg) rfl hd (by omega), by show xtag (xsetR g70 (xsz g51) 0 (some (xsz (xNew g51 (xBlank 109 2 1) 1)))) (xsz (xNew g51 (xBlank 109 2 1) 1)) - 10 = aN (u1 (nI f) (nI sg) (nI dg)) 1; rw [tT]; show 10 + sg - 10 = (nI sg).toNatClampNeg; rw [nI_c (by omega)]; omega, xT0, xT1⟩
  have tbB : xtag (xsetR g70 (xsz g51) 0 (some (xsz (xNew g51 (xBlank 109 2 1) 1)))) ((aR Z).getD r 0) = 6 ∨ xtag (xsetR g70 (xsz g51) 0 (some (xsz (xNew g51 (xBlank 109 2 1) 1)))) ((aR Z).getD r 0) = 7 := (hPB.ru hr).1
  have sbB : xsub 90 (xtag (xsetR g70 (xsz g51) 0 (some (xsz (xNew g51 (xBlank 109 2 1) 1)))) ((aR Z).getD r 0)) = true := xRu_x (hPB.ru hr)
  have fbB : xr (xsetR g70 (xsz g51) 0 (some (xsz (xNew g51 (xBlank 109 2 1) 1)))) ((aR Z).getD r 0) 6 = some (aTl Z r) := (hPB.ru hr).2.2.2.2.2.2.2.1
  have alB := (hPB.ru hr).2.2.2.2.2.2.2.2.1
  have obB : xown (xsetR g70 (xsz g51) 0 (some (xsz (xNew g51 (xBlank 109 2 1) 1)))) ((aR Z).getD r 0) = 1000 * p := (hPB.rp hr).2.1
  have hlB : ((aR Z).getD r 0) < xsz (xsetR g70 (xsz g51) 0 (some (xsz (xNew g51 (xBlank 109 2 1) 1)))) := xlt (by rcases tbB with z | z <;> rw [z] <;> decide)
  have t7 : (aT Z r).length ≤ 4 := by have h5 := hTB.1; have h6 := (hM.P.wf.ru hr).2.2.2.2.2.1.2; omega
  have rpB := hPB.rp hr
  have HA : xAdd (xsetR g70 (xsz g51) 0 (some (xsz (xNew g51 (xBlank 109 2 1) 1)))) ((aR Z).getD r 0) (1000 * p + 10 + r) (aTl Z r) (aTa Z r) (xsz g51) (aT Z r) [(xsz (xNew g51 (xBlank 109 2 1) 1))] := ⟨tbB, fbB, by rw [obB]; omega, by omega, alB, ⟨fun j hj => ?_, fun j hj => ?_⟩, ⟨by rw [xtag_setR]; exact tA70, by rw [xown_setR, oA70]; omega, by rw [xlen_setR]; exact lA70, fun i hi => ?_⟩, t7, by simp⟩
  rotate_left
  · by_cases e : j < (aT Z r).length
    · rw [getD_app3 e]; exact ⟨(hTB.2 j e).1, (hTB.2 j e).2.1⟩
    · rw [List.length_append] at hj
      have e2 : j = (aT Z r).length := by simp at hj; omega
      subst e2
      rw [show (aT Z r ++ [(xsz (xNew g51 (xBlank 109 2 1) 1))]).getD (aT Z r).length 0 = (xsz (xNew g51 (xBlank 109 2 1) 1)) from getD_app2, tT]; omega
  · by_cases e : j < (aT Z r).length
    · rw [getD_app3 e]; exact rpB.2.2.2 j e
    · rw [List.length_append] at hj
      have e2 : j = (aT Z r).length := by simp at hj; omega
      subst e2
      rw [show (aT Z r ++ [(xsz (xNew g51 (xBlank 109 2 1) 1))]).getD (aT Z r).length 0 = (xsz (xNew g51 (xBlank 109 2 1) 1)) from getD_app2]; exact oT
  · have e : i = 0 := by simpa using hi
    subst e
    exact xr_setRS (by rw [tA70]; decide)
  
  refine xw_callA (pc := 74) (xr_V (as := [_, _]) ok_X1_adds rfl (by decide) q1418 q1420 qs23 (by first | (rw [tx9]; rfl) | (rw [hM9.tx]; rfl) | (rw [hMB.tx]; rfl) | (rw [hMc.tx]; rfl) | (rw [hM.tx]; rfl)) (by first | (rw [tx9]; rfl) | (rw [hM9.tx]; rfl) | (rw [hMB.tx]; rfl) | (rw [hMc.tx]; rfl) | (rw [hM.tx]; rfl)) dX1_test_74 rfl rfl (Nat.le_of_ble_eq_true rfl)) (SP_X1_adds (d := d + 59) (x := x) HA (by rw [obB]; omega)) ?_
  intro a74 g74 hc74 hm74
  have hw9 : xWy g74 a74 (hindT (FAc (S 1) r (aT Z r).length (u1 (nI f) (nI sg) (nI dg)) 1) ((aT Z r).length + 1)) := hc74.1.congr (adW_s (g := (xsetR g70 (xsz g51) 0 (some (xsz (xNew g51 (xBlank 109 2 1) 1))))) (s := S 1) (u := (u1 (nI f) (nI sg) (nI dg))) hTB huB)
  have e0 : (adW (xsetR g70 (xsz g51) 0 (some (xsz (xNew g51 (xBlank 109 2 1) 1)))) (aT Z r ++ [(xsz (xNew g51 (xBlank 109 2 1) 1))])).1 = (hindT (FAc (S 1) r (aT Z r).length (u1 (nI f) (nI sg) (nI dg)) 1) ((aT Z r).length + 1)).1 := (adW_s (g := (xsetR g70 (xsz g51) 0 (some (xsz (xNew g51 (xBlank 109 2 1) 1))))) (s := S 1) (u := (u1 (nI f) (nI sg) (nI dg))) hTB huB).1
  obtain ⟨-, ⟨arr', hAL, hLE⟩, F74⟩ := hc74
  rw [if_pos (e0.trans hv)] at hAL
  have hm4 : (aT Z r).length + 1 ≤ 4 := hindT_c (FA := FAc (S 1) r (aT Z r).length (u1 (nI f) (nI sg) (nI dg)) 1) (by omega)
  have hP9 : xPol g74 p _ (tsUp (S 1) r (aT Z r).length (u1 (nI f) (nI sg) (nI dg)) 1) n rr ww := hPB.addT (us := [(xsz (xNew g51 (xBlank 109 2 1) 1))]) hr F74 (fun o h => h) hAL (Nat.le_trans (hPB.rp hr).2.2.1 hLE) hm4 (fun k hk => (huB k hk).fr F74 (by omega))
  have F2 : xFr (oP5 p) 7005 g51 g74 := ((FB.sub (m := 5) (fun o h1 => absurd h1 (fun z => z)) (Nat.le_refl _)).tr (F74.sub (m := 7000) (fun o h1 => by unfold oP5 oP; rcases h1 with z | z <;> omega) (Nat.le_refl _))).sub (fun _ h => h) (by omega)
  have oKP : oKeep (oP5 p) := by unfold oKeep oP5 oP; omega
  have hM9 := hMc.fr (S' := fun _ => (tsUp (S 1) r (aT Z r).length (u1 (nI f) (nI sg) (nI dg)) 1)) F2 oKP hP9
  have hD9 := hDc.fr F2 (by unfold oP5 oP; omega)
  have hPq9 := hPq.fr F2 (fun o h1 h2 => by unfold oP at h1; unfold oP5 oP at h2; omega) (by unfold oP5 oP; omega)
  have nx9 : ¬ oP5 p (xown g51 x) := by rw [hMc.ox]; unfold oP5 oP; omega
  have hx29 : xr g74 x 2 = some dq := (F2.r' (FC.lt hxl) nx9).trans ((FC.r' hxl nxC).trans hPa.1)
  have tx9 : xtag g74 x = 1 := hM9.tx
  have fb9 : xr g74 ((aR Z).getD r 0) 6 = some (aTl Z r) := (F74.r' hlB (by rw [obB]; omega)).trans fbB
  have sb9 : xsub 90 (xtag g74 ((aR Z).getD r 0)) = true := by rw [F74.tag hlB]; exact sbB
  have al9 : xAL g74 (1000 * p + 10 + r) (aTl Z r) arr' (aT Z r ++ [(xsz (xNew g51 (xBlank 109 2 1) 1))]) := hAL
  have ll9 : (aT Z r ++ [(xsz (xNew g51 (xBlank 109 2 1) 1))]).length = (aT Z r).length + 1 := List.length_append
  refine xw_callU (pc := 77) (xr_V (as := [_]) ok_X1_refuse rfl (by decide) q1302 q1304 qs22 (by first | (rw [tx9]; rfl) | (rw [hM9.tx]; rfl) | (rw [hMB.tx]; rfl) | (rw [hMc.tx]; rfl) | (rw [hM.tx]; rfl)) (by first | (rw [tx9]; rfl) | (rw [hM9.tx]; rfl) | (rw [hMB.tx]; rfl) | (rw [hMc.tx]; rfl) | (rw [hM.tx]; rfl)) dX1_test_77 rfl rfl (Nat.le_of_ble_eq_true rfl)) (SP_X1_refuse_N hw9 hv) ?_
  refine xw_aload_n (pc := 80) dX1_test_80 2 rfl ?_
  refine xw_aload (pc := 81) dX1_test_81 0 rfl ?_
  refine xw_aload (pc := 83) dX1_test_83 1 rfl ?_
  refine xw_getS (b := (aTl Z r)) (pc := 85) fd_X1_262 dX1_test_85 (by first | assumption | (simp [-List.getD_eq_getElem?_getD, xE_setI, xsz_setI, xsl_setI, xtag_setI, xown_setI, xlen_setI, xE_setR, xsz_setR, xsl_setR, xtag_setR, xown_setR, xlen_setR, xE_setW, xsz_setW, xsl_setW, xtag_setW, xown_setW, xlen_setW, xi_setR, xi_setW, xr_setI, xr_setW, xww_setI, xww_setR, xi_setI, xr_setR, xww_setW, xE_new, xsz_new, xsl_new, hM.tx, hM.xp, hM.l3, txC, tA70, oA70, lA70, tx9, fb9, sb9, xsub]; done) | (simp [-List.getD_eq_getElem?_getD, xE_setI, xsz_setI, xsl_setI, xtag_setI, xown_setI, xlen_setI, xE_setR, xsz_setR, xsl_setR, xtag_setR, xown_setR, xlen_setR, xE_setW, xsz_setW, xsl_setW, xtag_setW, xown_setW, xlen_setW, xi_setR, xi_setW, xr_setI, xr_setW, xww_setI, xww_setR, xi_setI, xr_setR, xww_setW, xE_new, xsz_new, xsl_new, hM.tx, hM.xp, hM.l3, txC, tA70, oA70, lA70, tx9, fb9, sb9] <;> rfl)) (by simp [-List.getD_eq_getElem?_getD, xE_setI, xsz_setI, xsl_setI, xtag_setI, xown_setI, xlen_setI, xE_setR, xsz_setR, xsl_setR, xtag_setR, xown_setR, xlen_setR, xE_setW, xsz_setW, xsl_setW, xtag_setW, xown_setW, xlen_setW, xi_setR, xi_setW, xr_setI, xr_setW, xww_setI, xww_setR, xi_setI, xr_setR, xww_setW, xE_new, xsz_new, xsl_new, hM.tx, hM.xp, hM.l3, txC, tA70, oA70, lA70, tx9, fb9, sb9]) ?_
  refine xw_callV (pc := 88) (xr_V (as := []) ok_J2_size rfl (by decide) q701 q702 q703 (by rw [al9.1]; rfl) (by rw [al9.1]; rfl) dX1_test_88 rfl rfl (Nat.le_of_ble_eq_true rfl)) ((show XM M_J2_size (d + 79) [.ref (aTl Z r)] g74 (xOne (some (.int (nI ((aT Z r).length + 1)))) g74) from ll9 ▸ SP_J2_size al9)) ?_
  refine xw_callF (pc := 91) (xr_V (as := [_, _]) ok_X1_changed rfl (by decide) q1110 q1112 qs19 (by first | (rw [tx9]; rfl) | (rw [hM9.tx]; rfl) | (rw [hMB.tx]; rfl) | (rw [hMc.tx]; rfl) | (rw [hM.tx]; rfl)) (by first | (rw [tx9]; rfl) | (rw [hM9.tx]; rfl) | (rw [hMB.tx]; rfl) | (rw [hMc.tx]; rfl) | (rw [hM.tx]; rfl)) dX1_test_91 rfl rfl (Nat.le_of_ble_eq_true rfl)) (SP_X1_changed hM9.tx hx29 hM9.ox hD9 hPa.2.2.2 hPq9.tag) ?_
  intro g91 hc91 hm91
  refine xw_iret (pc := 94) .int dX1_test_94 rfl ?_ 
  exact ⟨rfl, _, _, _, hP9.fr hc91.2 (fun o h1 h2 => by unfold oP at h1; unfold oEq at h2; omega) (by unfold oEq; omega), Nat.le_refl _, ⟨_, _, _, _, hPq9.fr hc91.2 (fun o h1 h2 => by unfold oP at h1; unfold oEq at h2; omega) (by unfold oEq; omega)⟩, hc91.1.choose_spec, (((FC.sub (O' := oCh p (xsz g)) (fun o h1 => by unfold oP at h1; unfold oCh; omega) (Nat.le_refl _)).tr (F2.sub (fun o h1 => by unfold oP5 oP at h1; unfold oCh oP; omega) (Nat.le_refl _))).tr (hc91.2.sub (fun o h1 => Or.inr (Or.inl h1)) (Nat.le_refl _))).sub (fun _ h => h) (by omega)⟩

theorem SP_X1_test_R {d : Nat} {g : xG} {x p lk fa ka la n rr ww : Nat} {Z : xAd} {S : xMS} (hM : xMn g x p lk fa ka la Z S n rr ww) {dq da h : Nat} {ps : List Nat} (hPa : xr g x 2 = some dq ∧ xAD g 7 dq da h ps ∧ True ∧ ps.length ≤ 8) {r f sg dg : Nat} (hr : r < rr) (hf : f < 6) (hs : sg < 4) (hd : dg < 10) (hv : (hindT (FAc (S 1) r (aT Z r).length (u1 (nI f) (nI sg) (nI dg)) 1) ((aT Z r).length + 1)).1 ≠ 0) : XM M_X1_test (d + 80) [.ref x, .int (nI r), .int (nI f), .int (nI sg), .int (nI dg)] g (xRefO g x (fun o => o = 5 ∨ oP p o ∨ 1000 * xsz g ≤ o) 9010 (hindT (FAc (S 1) r (aT Z r).length (u1 (nI f) (nI sg) (nI dg)) 1) ((aT Z r).length + 1)) (fun g' => ∃ Z', xPol g' p Z' (S 1) n rr ww)) := by
  have hlr := hM.P.lr
  have r16 := hM.P.wf.r16
  have h0 : inR (nI f) (nI 0) (nI 5) = true := inR_nat' (by decide) (by omega)
  have h1 : inR (nI sg) (nI 0) (nI 3) = true := inR_nat' (by decide) (by omega)
  have h2 : inR (nI dg) (nI 0) (nI 9) = true := inR_nat' (by decide) (by omega)
  refine xm_of (by decide +kernel) (Nat.le_of_ble_eq_true rfl) ?_
  show XW _ _ 0 [(0, _), (1, _), (2, _), (3, _), (4, _)] [] _ _
  refine xw_aload_n (pc := 0) dX1_test_0 0 rfl ?_
  refine xw_getS (b := p) (pc := 1) fd_X1_10 dX1_test_1 (by first | assumption | (simp [-List.getD_eq_getElem?_getD, xE_setI, xsz_setI, xsl_setI, xtag_setI, xown_setI, xlen_setI, xE_setR, xsz_setR, xsl_setR, xtag_setR, xown_setR, xlen_setR, xE_setW, xsz_setW, xsl_setW, xtag_setW, xown_setW, xlen_setW, xi_setR, xi_setW, xr_setI, xr_setW, xww_setI, xww_setR, xi_setI, xr_setR, xww_setW, xE_new, xsz_new, xsl_new, hM.tx, hM.xp, hM.l3, xsub]; done) | (simp [-List.getD_eq_getElem?_getD, xE_setI, xsz_setI, xsl_setI, xtag_setI, xown_setI, xlen_setI, xE_setR, xsz_setR, xsl_setR, xtag_setR, xown_setR, xlen_setR, xE_setW, xsz_setW, xsl_setW, xtag_setW, xown_setW, xlen_setW, xi_setR, xi_setW, xr_setI, xr_setW, xww_setI, xww_setR, xi_setI, xr_setR, xww_setW, xE_new, xsz_new, xsl_new, hM.tx, hM.xp, hM.l3] <;> rfl)) (by simp [-List.getD_eq_getElem?_getD, xE_setI, xsz_setI, xsl_setI, xtag_setI, xown_setI, xlen_setI, xE_setR, xsz_setR, xsl_setR, xtag_setR, xown_setR, xlen_setR, xE_setW, xsz_setW, xsl_setW, xtag_setW, xown_setW, xlen_setW, xi_setR, xi_setW, xr_setI, xr_setW, xww_setI, xww_setR, xi_setI, xr_setR, xww_setW, xE_new, xsz_new, xsl_new, hM.tx, hM.xp, hM.l3]) ?_
  refine xw_iload_n (pc := 4) dX1_test_4 1 rfl ?_
  refine xw_callV (pc := 5) (xr_V (as := [_]) ok_X2_rule rfl (by decide) q1338 q1339 q1340 (by rw [hM.P.tag]; rfl) (by rw [hM.P.tag]; rfl) dX1_test_5 rfl rfl (Nat.le_of_ble_eq_true rfl)) (SP_X2_rule hM.P.pl r (by omega) (hM.P.ru hr).1) ?_
  refine xw_astore (l' := [(5, _), (0, _), (1, _), (2, _), (3, _), (4, _)]) (pc := 8) dX1_test_8 (by decide) rfl ?_
  refine xw_iload_n (pc := 10) dX1_test_10 3 rfl ?_
  refine xw_iconst (v := nI 0) (pc := 11) dX1_test_11 rfl ?_
  refine xw_iconst (v := nI 5) (pc := 12) dX1_test_12 rfl ?_
  refine xw_callV (pc := 13) (xr_S (as := [_, _, _]) ok_X1_isIn rfl (by decide) q1180 q784 dX1_test_13 rfl rfl (Nat.le_of_ble_eq_true rfl)) (SP_X1_isInT h0) ?_
  refine xw_if_eq (pc := 16) 43 dX1_test_16 rfl (fun hb => absurd hb (by decide)) (fun _ => ?_)
  refine xw_iload_n (pc := 19) dX1_test_19 4 rfl ?_
  refine xw_iconst (v := nI 0) (pc := 20) dX1_test_20 rfl ?_
  refine xw_iconst (v := nI 3) (pc := 21) dX1_test_21 rfl ?_
  refine xw_callV (pc := 22) (xr_S (as := [_, _, _]) ok_X1_isIn rfl (by decide) q1180 q784 dX1_test_22 rfl rfl (Nat.le_of_ble_eq_true rfl)) (SP_X1_isInT h1) ?_
  refine xw_if_eq (pc := 25) 43 dX1_test_25 rfl (fun hb => absurd hb (by decide)) (fun _ => ?_)
  refine xw_iload (pc := 28) dX1_test_28 5 rfl ?_
  refine xw_iconst (v := nI 0) (pc := 30) dX1_test_30 rfl ?_
  refine xw_bipush (v := nI 9) (pc := 31) dX1_test_31 (by decide +kernel) ?_
  refine xw_callV (pc := 33) (xr_S (as := [_, _, _]) ok_X1_isIn rfl (by decide) q1180 q784 dX1_test_33 rfl rfl (Nat.le_of_ble_eq_true rfl)) (SP_X1_isInT h2) ?_
  refine xw_if_eq (pc := 36) 43 dX1_test_36 rfl (fun hb => absurd hb (by decide)) (fun _ => ?_)
  refine xw_iconst (v := nI 1) (pc := 39) dX1_test_39 rfl ?_
  refine xw_goto (pc := 40) 44 dX1_test_40 rfl ?_
  refine xw_callU (pc := 44) (xr_S (as := [_]) ok_X1_check rfl (by decide) q1181 q1182 dX1_test_44 rfl rfl (Nat.le_of_ble_eq_true rfl)) (SP_X1_check_T) ?_
  refine xw_aload_n (pc := 47) dX1_test_47 1 rfl ?_
  refine xw_getS (b := p) (pc := 48) fd_X1_10 dX1_test_48 (by first | assumption | (simp [-List.getD_eq_getElem?_getD, xE_setI, xsz_setI, xsl_setI, xtag_setI, xown_setI, xlen_setI, xE_setR, xsz_setR, xsl_setR, xtag_setR, xown_setR, xlen_setR, xE_setW, xsz_setW, xsl_setW, xtag_setW, xown_setW, xlen_setW, xi_setR, xi_setW, xr_setI, xr_setW, xww_setI, xww_setR, xi_setI, xr_setR, xww_setW, xE_new, xsz_new, xsl_new, hM.tx, hM.xp, hM.l3, xsub]; done) | (simp [-List.getD_eq_getElem?_getD, xE_setI, xsz_setI, xsl_setI, xtag_setI, xown_setI, xlen_setI, xE_setR, xsz_setR, xsl_setR, xtag_setR, xown_setR, xlen_setR, xE_setW, xsz_setW, xsl_setW, xtag_setW, xown_setW, xlen_setW, xi_setR, xi_setW, xr_setI, xr_setW, xww_setI, xww_setR, xi_setI, xr_setR, xww_setW, xE_new, xsz_new, xsl_new, hM.tx, hM.xp, hM.l3] <;> rfl)) (by simp [-List.getD_eq_getElem?_getD, xE_setI, xsz_setI, xsl_setI, xtag_setI, xown_setI, xlen_setI, xE_setR, xsz_setR, xsl_setR, xtag_setR, xown_setR, xlen_setR, xE_setW, xsz_setW, xsl_setW, xtag_setW, xown_setW, xlen_setW, xi_setR, xi_setW, xr_setI, xr_setW, xww_setI, xww_setR, xi_setI, xr_setR, xww_setW, xE_new, xsz_new, xsl_new, hM.tx, hM.xp, hM.l3]) ?_
  refine xw_callF (pc := 51) (xr_V (as := []) ok_X2_copy rfl (by decide) q902 q903 q904 (by rw [hM.P.tag]; rfl) (by rw [hM.P.tag]; rfl) dX1_test_51 rfl rfl (Nat.le_of_ble_eq_true rfl)) (SP_X2_copy (d := d + 70) hM.P) ?_
  intro g51 hc51 hm51
  obtain ⟨Zq, hPq, FC⟩ := hc51
  have hp0 := hM.P.p0
  have hlp := hM.P.lt
  have hxl : x < xsz g := xlt (by rw [hM.tx]; decide)
  have nxC : ¬ oP (xsz g) (xown g x) := by rw [hM.ox]; unfold oP; omega
  have oKC : oKeep (oP (xsz g)) := by unfold oKeep oP; omega
  have hP2 := hM.P.fr FC (fun o h1 h2 => by unfold oP at h1 h2; omega) (by unfold oP; omega)
  have hMc := hM.fr FC oKC hP2
  have hDc := hPa.2.1.fr FC (by unfold oP; omega)
  have txC : xtag g51 x = 1 := hMc.tx
  refine xw_astore (l' := [(6, _), (5, _), (0, _), (1, _), (2, _), (3, _), (4, _)]) (pc := 54) dX1_test_54 (by decide) rfl ?_
  refine xw_aload_n (pc := 56) dX1_test_56 2 rfl ?_
  refine xw_aload_n (pc := 57) dX1_test_57 2 rfl ?_
  refine xw_aload (pc := 58) dX1_test_58 1 rfl ?_
  refine xw_iconst (v := nI 1) (pc := 60) dX1_test_60 rfl ?_
  refine xw_anew (q := 8) (n := 1) (pc := 61) 2 dX1_test_61 (by decide) (by decide) rfl q656 (by decide) (by first | decide | assumption | omega) rfl (by omega) ?_
  refine xw_at (a := (xsz g51)) (by rfl) ?_
  refine xw_dup (pc := 64) dX1_test_64 rfl ?_
  refine xw_iconst (v := nI 0) (pc := 65) dX1_test_65 rfl ?_
  refine xw_iload_n (pc := 66) dX1_test_66 4 rfl ?_
  refine xw_iload_n (pc := 67) dX1_test_67 5 rfl ?_
  refine xw_iload (pc := 68) dX1_test_68 6 rfl ?_
  refine xw_callF (pc := 70) (xr_S (as := [_, _, _]) ok_X1_testBy rfl (by decide) q1372 q1373 dX1_test_70 rfl rfl (Nat.le_of_ble_eq_true rfl)) (SP_X1_testBy sg hs) ?_
  intro g70 hc70 hm70
  have tA0 : xtag (xNew g51 (xBlank 109 2 1) 1) (xsz g51) = 109 := by rw [xtag_newS rfl]; rfl
  have hlA : xsz g51 < xsz (xNew g51 (xBlank 109 2 1) 1) := Nat.lt_succ_self _
  have tA70 : xtag g70 (xsz g51) = 109 := (hc70.2.2.2.2.tag hlA).trans tA0
  have oA70 : xown g70 (xsz g51) = 2 := (hc70.2.2.2.2.own hlA).trans (by rw [xown_newS rfl]; rfl)
  have lA70 : xlen g70 (xsz g51) = 1 := (hc70.2.2.2.2.len hlA).trans (by rw [xlen_newS rfl]; rfl)
  have F70 : xFr oNo (2 + 3) g51 g70 := ((xFr.rf (n := 0)).nw (c := xBlank 109 2 1) (k := 1)).tr hc70.2.2.2.2
  refine xw_aast (q := 8) (k := 0) (pc := 73) dX1_test_73 (by simp [-List.getD_eq_getElem?_getD, xE_setI, xsz_setI, xsl_setI, xtag_setI, xown_setI, xlen_setI, xE_setR, xsz_setR, xsl_setR, xtag_setR, xown_setR, xlen_setR, xE_setW, xsz_setW, xsl_setW, xtag_setW, xown_setW, xlen_setW, xi_setR, xi_setW, xr_setI, xr_setW, xww_setI, xww_setR, xi_setI, xr_setR, xww_setW, xE_new, xsz_new, xsl_new, hM.tx, hM.xp, hM.l3, txC, tA70, oA70, lA70]) (by decide) (by decide) rfl (by first | assumption | (simp [-List.getD_eq_getElem?_getD, xE_setI, xsz_setI, xsl_setI, xtag_setI, xown_setI, xlen_setI, xE_setR, xsz_setR, xsl_setR, xtag_setR, xown_setR, xlen_setR, xE_setW, xsz_setW, xsl_setW, xtag_setW, xown_setW, xlen_setW, xi_setR, xi_setW, xr_setI, xr_setW, xww_setI, xww_setR, xi_setI, xr_setR, xww_setW, xE_new, xsz_new, xsl_new, hM.tx, hM.xp, hM.l3, txC, tA70, oA70, lA70]; done) | (simp [-List.getD_eq_getElem?_getD, xE_setI, xsz_setI, xsl_setI, xtag_setI, xown_setI, xlen_setI, xE_setR, xsz_setR, xsl_setR, xtag_setR, xown_setR, xlen_setR, xE_setW, xsz_setW, xsl_setW, xtag_setW, xown_setW, xlen_setW, xi_setR, xi_setW, xr_setI, xr_setW, xww_setI, xww_setR, xi_setI, xr_setR, xww_setW, xE_new, xsz_new, xsl_new, hM.tx, hM.xp, hM.l3, txC, tA70, oA70, lA70]; assumption)) rfl (by rw [lA70]; decide) (by rw [hc70.1]; exact (x_castT (by omega) (by omega)).1) (by rw [hc70.1]; exact (x_castT (by omega) (by omega)).2) ?_
  have FB : xFr oNo 5 g51 (xsetR g70 (xsz g51) 0 (some (xsz (xNew g51 (xBlank 109 2 1) 1)))) := F70.sr (Or.inl (Nat.le_refl _))
  have hPB := hP2.fr FB (fun o _ h => h) (fun h => h)
  have oKN : oKeep oNo := by unfold oKeep oNo; simp
  have hMB := hMc.fr (S' := S) FB oKN hPB
  have hTB := (hPB.ru hr).2.2.2.2.2.2.2.2.2.1
  have tT : xtag (xsetR g70 (xsz g51) 0 (some (xsz (xNew g51 (xBlank 109 2 1) 1)))) (xsz (xNew g51 (xBlank 109 2 1) 1)) = 10 + sg := by rw [xtag_setR]; exact hc70.1
  have oT : xown (xsetR g70 (xsz g51) 0 (some (xsz (xNew g51 (xBlank 109 2 1) 1)))) (xsz (xNew g51 (xBlank 109 2 1) 1)) = 2 := by rw [xown_setR]; exact hc70.2.1
  have xT0 : xi (xsetR g70 (xsz g51) 0 (some (xsz (xNew g51 (xBlank 109 2 1) 1)))) (xsz (xNew g51 (xBlank 109 2 1) 1)) 0 = nI f := by rw [xi_setR]; exact hc70.2.2.1
  have xT1 : xi (xsetR g70 (xsz g51) 0 (some (xsz (xNew g51 (xBlank 109 2 1) 1)))) (xsz (xNew g51 (xBlank 109 2 1) 1)) 1 = nI dg := by rw [xi_setR]; exact hc70.2.2.2.1
  have huB : ∀ k, k < [(xsz (xNew g51 (xBlank 109 2 1) 1))].length → xTe (xsetR g70 (xsz g51) 0 (some (xsz (xNew g51 (xBlank 109 2 1) 1)))) ([(xsz (xNew g51 (xBlank 109 2 1) 1))].getD k 0) (u1 (nI f) (nI sg) (nI dg)) (3 * k) := fun k hk => by
    have e : k = 0 := by simpa using hk
    subst e
    exact ⟨by show 10 ≤ xtag (xsetR g70 (xsz g51) 0 (some (xsz (xNew g51 (xBlank 109 2 1) 1)))) (xsz (xNew g51 (xBlank 109 2 1) 1)); rw [tT]; omega, by show xtag (xsetR g70 (xsz g51) 0 (some (xsz (xNew g51 (xBlank 109 2 1) 1)))) (xsz (xNew g51 (xBlank 109 2 1) 1)) ≤ 13; rw [tT]; omega, oT, isN_nI (v := f) rfl hf (by omega), isN_nI (v := sg) rfl hs (by omega), isN_nI (v := dg) rfl hd (by omega), by show xtag (xsetR g70 (xsz g51) 0 (some (xsz (xNew g51 (xBlank 109 2 1) 1)))) (xsz (xNew g51 (xBlank 109 2 1) 1)) - 10 = aN (u1 (nI f) (nI sg) (nI dg)) 1; rw [tT]; show 10 + sg - 10 = (nI sg).toNatClampNeg; rw [nI_c (by omega)]; omega, xT0, xT1⟩
  have tbB : xtag (xsetR g70 (xsz g51) 0 (some (xsz (xNew g51 (xBlank 109 2 1) 1)))) ((aR Z).getD r 0) = 6 ∨ xtag (xsetR g70 (xsz g51) 0 (some (xsz (xNew g51 (xBlank 109 2 1) 1)))) ((aR Z).getD r 0) = 7 := (hPB.ru hr).1
  have sbB : xsub 90 (xtag (xsetR g70 (xsz g51) 0 (some (xsz (xNew g51 (xBlank 109 2 1) 1)))) ((aR Z).getD r 0)) = true := xRu_x (hPB.ru hr)
  have fbB : xr (xsetR g70 (xsz g51) 0 (some (xsz (xNew g51 (xBlank 109 2 1) 1)))) ((aR Z).getD r 0) 6 = some (aTl Z r) := (hPB.ru hr).2.2.2.2.2.2.2.1
  have alB := (hPB.ru hr).2.2.2.2.2.2.2.2.1
  have obB : xown (xsetR g70 (xsz g51) 0 (some (xsz (xNew g51 (xBlank 109 2 1) 1)))) ((aR Z).getD r 0) = 1000 * p := (hPB.rp hr).2.1
  have hlB : ((aR Z).getD r 0) < xsz (xsetR g70 (xsz g51) 0 (some (xsz (xNew g51 (xBlank 109 2 1) 1)))) := xlt (by rcases tbB with z | z <;> rw [z] <;> decide)
  have t7 : (aT Z r).length ≤ 4 := by have h5 := hTB.1; have h6 := (hM.P.wf.ru hr).2.2.2.2.2.1.2; omega
  have rpB := hPB.rp hr
  have HA : xAdd (xsetR g70 (xsz g51) 0 (some (xsz (xNew g51 (xBlank 109 2 1) 1)))) ((aR Z).getD r 0) (1000 * p + 10 + r) (aTl Z r) (aTa Z r) (xsz g51) (aT Z r) [(xsz (xNew g51 (xBlank 109 2 1) 1))] := ⟨tbB, fbB, by rw [obB]; omega, by omega, alB, ⟨fun j hj => ?_, fun j hj => ?_⟩, ⟨by rw [xtag_setR]; exact tA70, by rw [xown_setR, oA70]; omega, by rw [xlen_setR]; exact lA70, fun i hi => ?_⟩, t7, by simp⟩
  rotate_left
  · by_cases e : j < (aT Z r).length
    · rw [getD_app3 e]; exact ⟨(hTB.2 j e).1, (hTB.2 j e).2.1⟩
    · rw [List.length_append] at hj
      have e2 : j = (aT Z r).length := by simp at hj; omega
      subst e2
      rw [show (aT Z r ++ [(xsz (xNew g51 (xBlank 109 2 1) 1))]).getD (aT Z r).length 0 = (xsz (xNew g51 (xBlank 109 2 1) 1)) from getD_app2, tT]; omega
  · by_cases e : j < (aT Z r).length
    · rw [getD_app3 e]; exact rpB.2.2.2 j e
    · rw [List.length_append] at hj
      have e2 : j = (aT Z r).length := by simp at hj; omega
      subst e2
      rw [show (aT Z r ++ [(xsz (xNew g51 (xBlank 109 2 1) 1))]).getD (aT Z r).length 0 = (xsz (xNew g51 (xBlank 109 2 1) 1)) from getD_app2]; exact oT
  · have e : i = 0 := by simpa using hi
    subst e
    exact xr_setRS (by rw [tA70]; decide)
  
  refine xw_callA (pc := 74) (xr_V (as := [_, _]) ok_X1_adds rfl (by decide) q1418 q1420 qs23 (by first | (rw [tx9]; rfl) | (rw [hM9.tx]; rfl) | (rw [hMB.tx]; rfl) | (rw [hMc.tx]; rfl) | (rw [hM.tx]; rfl)) (by first | (rw [tx9]; rfl) | (rw [hM9.tx]; rfl) | (rw [hMB.tx]; rfl) | (rw [hMc.tx]; rfl) | (rw [hM.tx]; rfl)) dX1_test_74 rfl rfl (Nat.le_of_ble_eq_true rfl)) (SP_X1_adds (d := d + 59) (x := x) HA (by rw [obB]; omega)) ?_
  intro a74 g74 hc74 hm74
  have hw9 : xWy g74 a74 (hindT (FAc (S 1) r (aT Z r).length (u1 (nI f) (nI sg) (nI dg)) 1) ((aT Z r).length + 1)) := hc74.1.congr (adW_s (g := (xsetR g70 (xsz g51) 0 (some (xsz (xNew g51 (xBlank 109 2 1) 1))))) (s := S 1) (u := (u1 (nI f) (nI sg) (nI dg))) hTB huB)
  have e0 : (adW (xsetR g70 (xsz g51) 0 (some (xsz (xNew g51 (xBlank 109 2 1) 1)))) (aT Z r ++ [(xsz (xNew g51 (xBlank 109 2 1) 1))])).1 = (hindT (FAc (S 1) r (aT Z r).length (u1 (nI f) (nI sg) (nI dg)) 1) ((aT Z r).length + 1)).1 := (adW_s (g := (xsetR g70 (xsz g51) 0 (some (xsz (xNew g51 (xBlank 109 2 1) 1))))) (s := S 1) (u := (u1 (nI f) (nI sg) (nI dg))) hTB huB).1
  obtain ⟨-, ⟨arr', hAL, hLE⟩, F74⟩ := hc74
  rw [if_neg (fun z => hv (e0.symm.trans z))] at hAL
  obtain ⟨Z9, hP9⟩ := hPB.reT hr F74 (fun o h => h) hAL (Nat.le_trans (hPB.rp hr).2.2.1 hLE)
  have FALL : xFr (fun o => o = 5 ∨ oP p o ∨ 1000 * xsz g ≤ o) 9000 g g74 := (((FC.sub (m := 1404) (O' := (fun o => o = 5 ∨ oP p o ∨ 1000 * xsz g ≤ o)) (fun o h1 => by unfold oP at h1; omega) (Nat.le_refl _)).tr (FB.sub (m := 5) (fun o h1 => absurd h1 (fun z => z)) (Nat.le_refl _))).tr (F74.sub (m := 7000) (fun o h1 => by unfold oP; rcases h1 with z | z <;> omega) (Nat.le_refl _))).sub (fun _ h => h) (by omega)
  have tx9 : xtag g74 x = 1 := (FALL.tag hxl).trans hM.tx
  refine xw_callY (pc := 77) (xr_V (as := [_]) ok_X1_refuse rfl (by decide) q1302 q1304 qs22 (by first | (rw [tx9]; rfl) | (rw [hM9.tx]; rfl) | (rw [hMB.tx]; rfl) | (rw [hMc.tx]; rfl) | (rw [hM.tx]; rfl)) (by first | (rw [tx9]; rfl) | (rw [hM9.tx]; rfl) | (rw [hMB.tx]; rfl) | (rw [hMc.tx]; rfl) | (rw [hM.tx]; rfl)) dX1_test_77 rfl rfl (Nat.le_of_ble_eq_true rfl)) (SP_X1_refuse_O hw9 hv hM.tx hM.ox FALL (by unfold oP; have := xlt (g := g) (a := x) (by rw [hM.tx]; decide); omega) (E := fun g' => ∃ Z', xPol g' p Z' (S 1) n rr ww) (fun g' F9 => ⟨Z9, hP9.fr F9 (fun o h1 h2 => by unfold oP at h1; unfold oEq at h2; omega) (by unfold oEq; omega)⟩)) xRefO_up rfl ?_
  exact fun _ _ h => h

