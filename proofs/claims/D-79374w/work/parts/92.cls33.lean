/-! CLASS 33: defaults, scopes -/
set_option maxRecDepth 100000
theorem SP_X1_setDefault_F {d : Nat} {g : xG} {x p lk fa ka la n rr ww : Nat} {Z : xAd} {S : xMS} (hM : xMn g x p lk fa ka la Z S n rr ww) {v e : Int32} (hv : ¬ inR v (nI 0) (nI n - nI 1) = true) : XM M_X1_setDefault (d + 80) [.ref x, .int v, .int e] g (xThr (xsz g) (xExc g 23)) := by
  have hlc := hM.P.lc
  have n10 := hM.P.wf.n10
  refine xm_of (by decide +kernel) (Nat.le_of_ble_eq_true rfl) ?_
  show XW _ _ 0 [(0, _), (1, _), (2, _)] [] _ _
  refine xw_aload_n (pc := 0) dX1_setDefault_0 0 rfl ?_
  refine xw_getS (b := p) (pc := 1) fd_X1_10 dX1_setDefault_1 (by first | assumption | (simp [-List.getD_eq_getElem?_getD, xE_setI, xsz_setI, xsl_setI, xtag_setI, xown_setI, xlen_setI, xE_setR, xsz_setR, xsl_setR, xtag_setR, xown_setR, xlen_setR, xE_setW, xsz_setW, xsl_setW, xtag_setW, xown_setW, xlen_setW, xi_setR, xi_setW, xr_setI, xr_setW, xww_setI, xww_setR, xi_setI, xr_setR, xww_setW, xE_new, xsz_new, xsl_new, hM.tx, hM.xp, hM.l3, xsub]; done) | (simp [-List.getD_eq_getElem?_getD, xE_setI, xsz_setI, xsl_setI, xtag_setI, xown_setI, xlen_setI, xE_setR, xsz_setR, xsl_setR, xtag_setR, xown_setR, xlen_setR, xE_setW, xsz_setW, xsl_setW, xtag_setW, xown_setW, xlen_setW, xi_setR, xi_setW, xr_setI, xr_setW, xww_setI, xww_setR, xi_setI, xr_setR, xww_setW, xE_new, xsz_new, xsl_new, hM.tx, hM.xp, hM.l3] <;> rfl)) (by simp [-List.getD_eq_getElem?_getD, xE_setI, xsz_setI, xsl_setI, xtag_setI, xown_setI, xlen_setI, xE_setR, xsz_setR, xsl_setR, xtag_setR, xown_setR, xlen_setR, xE_setW, xsz_setW, xsl_setW, xtag_setW, xown_setW, xlen_setW, xi_setR, xi_setW, xr_setI, xr_setW, xww_setI, xww_setR, xi_setI, xr_setR, xww_setW, xE_new, xsz_new, xsl_new, hM.tx, hM.xp, hM.l3]) ?_
  refine xw_iload_n (pc := 4) dX1_setDefault_4 1 rfl ?_
  refine xw_callX (pc := 5) (xr_V (as := [_]) ok_X2_scope rfl (by decide) q1056 q1057 q1058 (by rw [hM.P.tag]; rfl) (by rw [hM.P.tag]; rfl) dX1_setDefault_5 rfl rfl (Nat.le_of_ble_eq_true rfl)) (SP_X2_scope_F hM.P.pl v (by rw [hlc]; exact hv)) ?_
  exact xx_out0 rfl (by rw [xExc_tag]; decide) (by rw [xExc_tag]; decide) (by rw [xExc_own]; decide) ⟨rfl, rfl⟩

theorem SP_X1_scope_F {d : Nat} {g : xG} {x p lk fa ka la n rr ww : Nat} {Z : xAd} {S : xMS} (hM : xMn g x p lk fa ka la Z S n rr ww) {v e : Int32} (hv : ¬ inR v (nI 0) (nI n - nI 1) = true) : XM M_X1_scope (d + 80) [.ref x, .int v] g (xThr (xsz g) (xExc g 23)) := by
  have hlc := hM.P.lc
  have n10 := hM.P.wf.n10
  refine xm_of (by decide +kernel) (Nat.le_of_ble_eq_true rfl) ?_
  show XW _ _ 0 [(0, _), (1, _)] [] _ _
  refine xw_aload_n (pc := 0) dX1_scope_0 0 rfl ?_
  refine xw_getS (b := p) (pc := 1) fd_X1_10 dX1_scope_1 (by first | assumption | (simp [-List.getD_eq_getElem?_getD, xE_setI, xsz_setI, xsl_setI, xtag_setI, xown_setI, xlen_setI, xE_setR, xsz_setR, xsl_setR, xtag_setR, xown_setR, xlen_setR, xE_setW, xsz_setW, xsl_setW, xtag_setW, xown_setW, xlen_setW, xi_setR, xi_setW, xr_setI, xr_setW, xww_setI, xww_setR, xi_setI, xr_setR, xww_setW, xE_new, xsz_new, xsl_new, hM.tx, hM.xp, hM.l3, xsub]; done) | (simp [-List.getD_eq_getElem?_getD, xE_setI, xsz_setI, xsl_setI, xtag_setI, xown_setI, xlen_setI, xE_setR, xsz_setR, xsl_setR, xtag_setR, xown_setR, xlen_setR, xE_setW, xsz_setW, xsl_setW, xtag_setW, xown_setW, xlen_setW, xi_setR, xi_setW, xr_setI, xr_setW, xww_setI, xww_setR, xi_setI, xr_setR, xww_setW, xE_new, xsz_new, xsl_new, hM.tx, hM.xp, hM.l3] <;> rfl)) (by simp [-List.getD_eq_getElem?_getD, xE_setI, xsz_setI, xsl_setI, xtag_setI, xown_setI, xlen_setI, xE_setR, xsz_setR, xsl_setR, xtag_setR, xown_setR, xlen_setR, xE_setW, xsz_setW, xsl_setW, xtag_setW, xown_setW, xlen_setW, xi_setR, xi_setW, xr_setI, xr_setW, xww_setI, xww_setR, xi_setI, xr_setR, xww_setW, xE_new, xsz_new, xsl_new, hM.tx, hM.xp, hM.l3]) ?_
  refine xw_iload_n (pc := 4) dX1_scope_4 1 rfl ?_
  refine xw_callX (pc := 5) (xr_V (as := [_]) ok_X2_scope rfl (by decide) q1056 q1057 q1058 (by rw [hM.P.tag]; rfl) (by rw [hM.P.tag]; rfl) dX1_scope_5 rfl rfl (Nat.le_of_ble_eq_true rfl)) (SP_X2_scope_F hM.P.pl v (by rw [hlc]; exact hv)) ?_
  exact xx_out0 rfl (by rw [xExc_tag]; decide) (by rw [xExc_tag]; decide) (by rw [xExc_own]; decide) ⟨rfl, rfl⟩

theorem SP_X1_setDefault_G0 {d : Nat} {g : xG} {x p lk fa ka la n rr ww : Nat} {Z : xAd} {S : xMS} (hM : xMn g x p lk fa ka la Z S n rr ww) {k : Nat} {e : Int32} (hk : k < n) (hz : k = 0) (he : ¬ inR e (nI 0) (nI 2) = true) : XM M_X1_setDefault (d + 80) [.ref x, .int (nI k), .int e] g (xThr (xsz g) (xExc g 22)) := by
  have hlc := hM.P.lc
  have n10 := hM.P.wf.n10
  refine xm_of (by decide +kernel) (Nat.le_of_ble_eq_true rfl) ?_
  show XW _ _ 0 [(0, _), (1, _), (2, _)] [] _ _
  refine xw_aload_n (pc := 0) dX1_setDefault_0 0 rfl ?_
  refine xw_getS (b := p) (pc := 1) fd_X1_10 dX1_setDefault_1 (by first | assumption | (simp [-List.getD_eq_getElem?_getD, xE_setI, xsz_setI, xsl_setI, xtag_setI, xown_setI, xlen_setI, xE_setR, xsz_setR, xsl_setR, xtag_setR, xown_setR, xlen_setR, xE_setW, xsz_setW, xsl_setW, xtag_setW, xown_setW, xlen_setW, xi_setR, xi_setW, xr_setI, xr_setW, xww_setI, xww_setR, xi_setI, xr_setR, xww_setW, xE_new, xsz_new, xsl_new, hM.tx, hM.xp, hM.l3, xsub]; done) | (simp [-List.getD_eq_getElem?_getD, xE_setI, xsz_setI, xsl_setI, xtag_setI, xown_setI, xlen_setI, xE_setR, xsz_setR, xsl_setR, xtag_setR, xown_setR, xlen_setR, xE_setW, xsz_setW, xsl_setW, xtag_setW, xown_setW, xlen_setW, xi_setR, xi_setW, xr_setI, xr_setW, xww_setI, xww_setR, xi_setI, xr_setR, xww_setW, xE_new, xsz_new, xsl_new, hM.tx, hM.xp, hM.l3] <;> rfl)) (by simp [-List.getD_eq_getElem?_getD, xE_setI, xsz_setI, xsl_setI, xtag_setI, xown_setI, xlen_setI, xE_setR, xsz_setR, xsl_setR, xtag_setR, xown_setR, xlen_setR, xE_setW, xsz_setW, xsl_setW, xtag_setW, xown_setW, xlen_setW, xi_setR, xi_setW, xr_setI, xr_setW, xww_setI, xww_setR, xi_setI, xr_setR, xww_setW, xE_new, xsz_new, xsl_new, hM.tx, hM.xp, hM.l3]) ?_
  refine xw_iload_n (pc := 4) dX1_setDefault_4 1 rfl ?_
  refine xw_callV (pc := 5) (xr_V (as := [_]) ok_X2_scope rfl (by decide) q1056 q1057 q1058 (by rw [hM.P.tag]; rfl) (by rw [hM.P.tag]; rfl) dX1_setDefault_5 rfl rfl (Nat.le_of_ble_eq_true rfl)) (SP_X2_scope hM.P.pl k (by omega) (hM.P.so' hk)) ?_
  refine xw_astore_n (l' := [(3, _), (0, _), (1, _), (2, _)]) (pc := 8) dX1_setDefault_8 rfl (by decide) rfl ?_
  refine xw_iload_n (pc := 9) dX1_setDefault_9 3 rfl ?_
  refine xw_iload_n (pc := 10) dX1_setDefault_10 2 rfl ?_
  refine xw_if_ne (pc := 11) 18 dX1_setDefault_11 rfl (fun hb11 => ?_) (fun hb11 => ?_)
  · exfalso
    replace hb11 : ¬ (k = 0) := mt (nI_eq (a := k) (b := 0) (by omega) (by omega)).mpr hb11
    omega
  replace hb11 : k = 0 := (nI_eq (a := k) (b := 0) (by omega) (by omega)).mp hb11
  refine xw_iconst (v := nI 0) (pc := 14) dX1_setDefault_14 rfl ?_
  refine xw_goto (pc := 15) 19 dX1_setDefault_15 rfl ?_
  refine xw_iconst (v := nI 2) (pc := 19) dX1_setDefault_19 rfl ?_
  refine xw_callV (pc := 20) (xr_S (as := [_, _, _]) ok_X1_isIn rfl (by decide) q1180 q784 dX1_setDefault_20 rfl rfl (Nat.le_of_ble_eq_true rfl)) (SP_X1_isInF he) ?_
  refine xw_callX (pc := 23) (xr_S (as := [_]) ok_X1_check rfl (by decide) q1181 q1182 dX1_setDefault_23 rfl rfl (Nat.le_of_ble_eq_true rfl)) (SP_X1_check_F) ?_
  exact xx_out0 rfl (by rw [xExc_tag]; decide) (by rw [xExc_tag]; decide) (by rw [xExc_own]; decide) ⟨rfl, rfl⟩

theorem SP_X1_setDefault_G1 {d : Nat} {g : xG} {x p lk fa ka la n rr ww : Nat} {Z : xAd} {S : xMS} (hM : xMn g x p lk fa ka la Z S n rr ww) {k : Nat} {e : Int32} (hk : k < n) (hz : k ≠ 0) (he : ¬ inR e ((-1)) (nI 2) = true) : XM M_X1_setDefault (d + 80) [.ref x, .int (nI k), .int e] g (xThr (xsz g) (xExc g 22)) := by
  have hlc := hM.P.lc
  have n10 := hM.P.wf.n10
  refine xm_of (by decide +kernel) (Nat.le_of_ble_eq_true rfl) ?_
  show XW _ _ 0 [(0, _), (1, _), (2, _)] [] _ _
  refine xw_aload_n (pc := 0) dX1_setDefault_0 0 rfl ?_
  refine xw_getS (b := p) (pc := 1) fd_X1_10 dX1_setDefault_1 (by first | assumption | (simp [-List.getD_eq_getElem?_getD, xE_setI, xsz_setI, xsl_setI, xtag_setI, xown_setI, xlen_setI, xE_setR, xsz_setR, xsl_setR, xtag_setR, xown_setR, xlen_setR, xE_setW, xsz_setW, xsl_setW, xtag_setW, xown_setW, xlen_setW, xi_setR, xi_setW, xr_setI, xr_setW, xww_setI, xww_setR, xi_setI, xr_setR, xww_setW, xE_new, xsz_new, xsl_new, hM.tx, hM.xp, hM.l3, xsub]; done) | (simp [-List.getD_eq_getElem?_getD, xE_setI, xsz_setI, xsl_setI, xtag_setI, xown_setI, xlen_setI, xE_setR, xsz_setR, xsl_setR, xtag_setR, xown_setR, xlen_setR, xE_setW, xsz_setW, xsl_setW, xtag_setW, xown_setW, xlen_setW, xi_setR, xi_setW, xr_setI, xr_setW, xww_setI, xww_setR, xi_setI, xr_setR, xww_setW, xE_new, xsz_new, xsl_new, hM.tx, hM.xp, hM.l3] <;> rfl)) (by simp [-List.getD_eq_getElem?_getD, xE_setI, xsz_setI, xsl_setI, xtag_setI, xown_setI, xlen_setI, xE_setR, xsz_setR, xsl_setR, xtag_setR, xown_setR, xlen_setR, xE_setW, xsz_setW, xsl_setW, xtag_setW, xown_setW, xlen_setW, xi_setR, xi_setW, xr_setI, xr_setW, xww_setI, xww_setR, xi_setI, xr_setR, xww_setW, xE_new, xsz_new, xsl_new, hM.tx, hM.xp, hM.l3]) ?_
  refine xw_iload_n (pc := 4) dX1_setDefault_4 1 rfl ?_
  refine xw_callV (pc := 5) (xr_V (as := [_]) ok_X2_scope rfl (by decide) q1056 q1057 q1058 (by rw [hM.P.tag]; rfl) (by rw [hM.P.tag]; rfl) dX1_setDefault_5 rfl rfl (Nat.le_of_ble_eq_true rfl)) (SP_X2_scope hM.P.pl k (by omega) (hM.P.so' hk)) ?_
  refine xw_astore_n (l' := [(3, _), (0, _), (1, _), (2, _)]) (pc := 8) dX1_setDefault_8 rfl (by decide) rfl ?_
  refine xw_iload_n (pc := 9) dX1_setDefault_9 3 rfl ?_
  refine xw_iload_n (pc := 10) dX1_setDefault_10 2 rfl ?_
  refine xw_if_ne (pc := 11) 18 dX1_setDefault_11 rfl (fun hb11 => ?_) (fun hb11 => ?_)
  rotate_left
  · exfalso
    replace hb11 : k = 0 := (nI_eq (a := k) (b := 0) (by omega) (by omega)).mp hb11
    omega
  replace hb11 : ¬ (k = 0) := mt (nI_eq (a := k) (b := 0) (by omega) (by omega)).mpr hb11
  refine xw_iconst (v := -1) (pc := 18) dX1_setDefault_18 (by decide +kernel) ?_
  refine xw_iconst (v := nI 2) (pc := 19) dX1_setDefault_19 rfl ?_
  refine xw_callV (pc := 20) (xr_S (as := [_, _, _]) ok_X1_isIn rfl (by decide) q1180 q784 dX1_setDefault_20 rfl rfl (Nat.le_of_ble_eq_true rfl)) (SP_X1_isInF he) ?_
  refine xw_callX (pc := 23) (xr_S (as := [_]) ok_X1_check rfl (by decide) q1181 q1182 dX1_setDefault_23 rfl rfl (Nat.le_of_ble_eq_true rfl)) (SP_X1_check_F) ?_
  exact xx_out0 rfl (by rw [xExc_tag]; decide) (by rw [xExc_tag]; decide) (by rw [xExc_own]; decide) ⟨rfl, rfl⟩

theorem SP_X1_setDefault_F2 {d : Nat} {g : xG} {x p lk fa ka la n rr ww : Nat} {Z : xAd} {S : xMS} (hM : xMn g x p lk fa ka la Z S n rr ww) {k : Nat} {e : Int32} (hk : k < n) (he : ¬ inR e (if k = 0 then nI 0 else -1) (nI 2) = true) : XM M_X1_setDefault (d + 80) [.ref x, .int (nI k), .int e] g (xThr (xsz g) (xExc g 22)) := by
  by_cases hz : k = 0
  · rw [if_pos hz] at he; exact SP_X1_setDefault_G0 hM hk hz he
  · rw [if_neg hz] at he; exact SP_X1_setDefault_G1 hM hk hz he
theorem inR_eff {k : Nat} {e : Int32} (h : inR e (if k = 0 then nI 0 else -1) (nI 2) = true) : (e = -1 ∨ ∃ q, q < 3 ∧ e = nI q) ∧ (k = 0 → ¬ e < 0) := by
  by_cases hz : k = 0
  · rw [if_pos hz] at h
    obtain ⟨q, hq, rfl⟩ := inR_nat (b := 2) (by decide) h
    exact ⟨Or.inr ⟨q, by omega, rfl⟩, fun _ => nI_pos (by omega)⟩
  · rw [if_neg hz] at h
    exact ⟨inR_m1 (n := 3) (by decide) h, fun q => absurd q hz⟩
theorem SP_X1_setDefault_T0 {d : Nat} {g : xG} {x p lk fa ka la n rr ww : Nat} {Z : xAd} {S : xMS} (hM : xMn g x p lk fa ka la Z S n rr ww) {dq da h : Nat} {ps : List Nat} (hPa : xr g x 2 = some dq ∧ xAD g 7 dq da h ps ∧ True ∧ ps.length ≤ 8) {k : Nat} {e : Int32} (hk : k < n) (hz : k = 0) (he : inR e (nI 0) (nI 2) = true) (he2 : (e = -1 ∨ ∃ q, q < 3 ∧ e = nI q) ∧ (k = 0 → ¬ e < 0)) : XM M_X1_setDefault (d + 80) [.ref x, .int (nI k), .int e] g (xVal (.int (S 1 (4 + 2 * k))) (xChd g p dq da (S 1) ps (sUp (S 1) (4 + 2 * k) e) n rr ww)) := by
  have hlc := hM.P.lc
  have n10 := hM.P.wf.n10
  refine xm_of (by decide +kernel) (Nat.le_of_ble_eq_true rfl) ?_
  show XW _ _ 0 [(0, _), (1, _), (2, _)] [] _ _
  refine xw_aload_n (pc := 0) dX1_setDefault_0 0 rfl ?_
  refine xw_getS (b := p) (pc := 1) fd_X1_10 dX1_setDefault_1 (by first | assumption | (simp [-List.getD_eq_getElem?_getD, xE_setI, xsz_setI, xsl_setI, xtag_setI, xown_setI, xlen_setI, xE_setR, xsz_setR, xsl_setR, xtag_setR, xown_setR, xlen_setR, xE_setW, xsz_setW, xsl_setW, xtag_setW, xown_setW, xlen_setW, xi_setR, xi_setW, xr_setI, xr_setW, xww_setI, xww_setR, xi_setI, xr_setR, xww_setW, xE_new, xsz_new, xsl_new, hM.tx, hM.xp, hM.l3, xsub]; done) | (simp [-List.getD_eq_getElem?_getD, xE_setI, xsz_setI, xsl_setI, xtag_setI, xown_setI, xlen_setI, xE_setR, xsz_setR, xsl_setR, xtag_setR, xown_setR, xlen_setR, xE_setW, xsz_setW, xsl_setW, xtag_setW, xown_setW, xlen_setW, xi_setR, xi_setW, xr_setI, xr_setW, xww_setI, xww_setR, xi_setI, xr_setR, xww_setW, xE_new, xsz_new, xsl_new, hM.tx, hM.xp, hM.l3] <;> rfl)) (by simp [-List.getD_eq_getElem?_getD, xE_setI, xsz_setI, xsl_setI, xtag_setI, xown_setI, xlen_setI, xE_setR, xsz_setR, xsl_setR, xtag_setR, xown_setR, xlen_setR, xE_setW, xsz_setW, xsl_setW, xtag_setW, xown_setW, xlen_setW, xi_setR, xi_setW, xr_setI, xr_setW, xww_setI, xww_setR, xi_setI, xr_setR, xww_setW, xE_new, xsz_new, xsl_new, hM.tx, hM.xp, hM.l3]) ?_
  refine xw_iload_n (pc := 4) dX1_setDefault_4 1 rfl ?_
  refine xw_callV (pc := 5) (xr_V (as := [_]) ok_X2_scope rfl (by decide) q1056 q1057 q1058 (by rw [hM.P.tag]; rfl) (by rw [hM.P.tag]; rfl) dX1_setDefault_5 rfl rfl (Nat.le_of_ble_eq_true rfl)) (SP_X2_scope hM.P.pl k (by omega) (hM.P.so' hk)) ?_
  refine xw_astore_n (l' := [(3, _), (0, _), (1, _), (2, _)]) (pc := 8) dX1_setDefault_8 rfl (by decide) rfl ?_
  refine xw_iload_n (pc := 9) dX1_setDefault_9 3 rfl ?_
  refine xw_iload_n (pc := 10) dX1_setDefault_10 2 rfl ?_
  refine xw_if_ne (pc := 11) 18 dX1_setDefault_11 rfl (fun hb11 => ?_) (fun hb11 => ?_)
  · exfalso
    replace hb11 : ¬ (k = 0) := mt (nI_eq (a := k) (b := 0) (by omega) (by omega)).mpr hb11
    omega
  replace hb11 : k = 0 := (nI_eq (a := k) (b := 0) (by omega) (by omega)).mp hb11
  refine xw_iconst (v := nI 0) (pc := 14) dX1_setDefault_14 rfl ?_
  refine xw_goto (pc := 15) 19 dX1_setDefault_15 rfl ?_
  refine xw_iconst (v := nI 2) (pc := 19) dX1_setDefault_19 rfl ?_
  refine xw_callV (pc := 20) (xr_S (as := [_, _, _]) ok_X1_isIn rfl (by decide) q1180 q784 dX1_setDefault_20 rfl rfl (Nat.le_of_ble_eq_true rfl)) (SP_X1_isInT he) ?_
  refine xw_callU (pc := 23) (xr_S (as := [_]) ok_X1_check rfl (by decide) q1181 q1182 dX1_setDefault_23 rfl rfl (Nat.le_of_ble_eq_true rfl)) (SP_X1_check_T) ?_
  refine xw_aload_n (pc := 26) dX1_setDefault_26 1 rfl ?_
  refine xw_getS (b := p) (pc := 27) fd_X1_10 dX1_setDefault_27 (by first | assumption | (simp [-List.getD_eq_getElem?_getD, xE_setI, xsz_setI, xsl_setI, xtag_setI, xown_setI, xlen_setI, xE_setR, xsz_setR, xsl_setR, xtag_setR, xown_setR, xlen_setR, xE_setW, xsz_setW, xsl_setW, xtag_setW, xown_setW, xlen_setW, xi_setR, xi_setW, xr_setI, xr_setW, xww_setI, xww_setR, xi_setI, xr_setR, xww_setW, xE_new, xsz_new, xsl_new, hM.tx, hM.xp, hM.l3, xsub]; done) | (simp [-List.getD_eq_getElem?_getD, xE_setI, xsz_setI, xsl_setI, xtag_setI, xown_setI, xlen_setI, xE_setR, xsz_setR, xsl_setR, xtag_setR, xown_setR, xlen_setR, xE_setW, xsz_setW, xsl_setW, xtag_setW, xown_setW, xlen_setW, xi_setR, xi_setW, xr_setI, xr_setW, xww_setI, xww_setR, xi_setI, xr_setR, xww_setW, xE_new, xsz_new, xsl_new, hM.tx, hM.xp, hM.l3] <;> rfl)) (by simp [-List.getD_eq_getElem?_getD, xE_setI, xsz_setI, xsl_setI, xtag_setI, xown_setI, xlen_setI, xE_setR, xsz_setR, xsl_setR, xtag_setR, xown_setR, xlen_setR, xE_setW, xsz_setW, xsl_setW, xtag_setW, xown_setW, xlen_setW, xi_setR, xi_setW, xr_setI, xr_setW, xww_setI, xww_setR, xi_setI, xr_setR, xww_setW, xE_new, xsz_new, xsl_new, hM.tx, hM.xp, hM.l3]) ?_
  refine xw_callF (pc := 30) (xr_V (as := []) ok_X2_copy rfl (by decide) q902 q903 q904 (by rw [hM.P.tag]; rfl) (by rw [hM.P.tag]; rfl) dX1_setDefault_30 rfl rfl (Nat.le_of_ble_eq_true rfl)) (SP_X2_copy (d := d + 70) hM.P) ?_
  intro g30 hc30 hm30
  obtain ⟨Zq, hPq, FC⟩ := hc30
  have hp0 := hM.P.p0
  have hlp := hM.P.lt
  have hxl : x < xsz g := xlt (by rw [hM.tx]; decide)
  have nxC : ¬ oP (xsz g) (xown g x) := by rw [hM.ox]; unfold oP; omega
  have oKC : oKeep (oP (xsz g)) := by unfold oKeep oP; omega
  have hP2 := hM.P.fr FC (fun o h1 h2 => by unfold oP at h1 h2; omega) (by unfold oP; omega)
  have hMc := hM.fr FC oKC hP2
  have hDc := hPa.2.1.fr FC (by unfold oP; omega)
  have tc30 : xtag g30 ((aC Z).getD k 0) = 3 := hP2.so' hk
  have fc30 : xr g30 ((aC Z).getD k 0) 2 = effO g30 (S 1 (4 + 2 * k)) := (hP2.sc k hk).2.2.2
  have oc30 : xown g30 ((aC Z).getD k 0) = 1000 * p := hP2.so hk
  have oc30n : ¬ xown g30 ((aC Z).getD k 0) = 0 := by rw [oc30]; omega
  refine xw_astore (l' := [(4, _), (3, _), (0, _), (1, _), (2, _)]) (pc := 33) dX1_setDefault_33 (by decide) rfl ?_
  refine xw_aload_n (pc := 35) dX1_setDefault_35 1 rfl ?_
  refine xw_getR (pc := 36) fd_X1_191 dX1_setDefault_36 (by first | assumption | (simp [-List.getD_eq_getElem?_getD, xE_setI, xsz_setI, xsl_setI, xtag_setI, xown_setI, xlen_setI, xE_setR, xsz_setR, xsl_setR, xtag_setR, xown_setR, xlen_setR, xE_setW, xsz_setW, xsl_setW, xtag_setW, xown_setW, xlen_setW, xi_setR, xi_setW, xr_setI, xr_setW, xww_setI, xww_setR, xi_setI, xr_setR, xww_setW, xE_new, xsz_new, xsl_new, hM.tx, hM.xp, hM.l3, tc30, oc30n, xsub]; done) | (simp [-List.getD_eq_getElem?_getD, xE_setI, xsz_setI, xsl_setI, xtag_setI, xown_setI, xlen_setI, xE_setR, xsz_setR, xsl_setR, xtag_setR, xown_setR, xlen_setR, xE_setW, xsz_setW, xsl_setW, xtag_setW, xown_setW, xlen_setW, xi_setR, xi_setW, xr_setI, xr_setW, xww_setI, xww_setR, xi_setI, xr_setR, xww_setW, xE_new, xsz_new, xsl_new, hM.tx, hM.xp, hM.l3, tc30, oc30n] <;> rfl)) ?_
  rw [fc30]
  refine xw_callV (pc := 39) (xr_S (as := [_]) ok_X1_numberOf rfl (by decide) q1189 q1190 dX1_setDefault_39 rfl rfl (Nat.le_of_ble_eq_true rfl)) (SP_X1_numberOf hMc.cn (hM.P.wf.e.2 k hk)) ?_
  refine xw_istore (l' := [(5, _), (4, _), (3, _), (0, _), (1, _), (2, _)]) (pc := 42) dX1_setDefault_42 (by decide) rfl ?_
  refine xw_aload_n (pc := 44) dX1_setDefault_44 2 rfl ?_
  refine xw_iload_n (pc := 45) dX1_setDefault_45 5 rfl ?_
  refine xw_callV (pc := 46) (xr_S (as := [_]) ok_X1_effectOf rfl (by decide) q1207 q1208 dX1_setDefault_46 rfl rfl (Nat.le_of_ble_eq_true rfl)) (SP_X1_effectOf) ?_
  refine xw_putR (o := (effO g30 e)) (pc := 49) fd_X1_191 (xfin_of (by decide) (by decide +kernel)) dX1_setDefault_49 (by first | assumption | (simp [-List.getD_eq_getElem?_getD, xE_setI, xsz_setI, xsl_setI, xtag_setI, xown_setI, xlen_setI, xE_setR, xsz_setR, xsl_setR, xtag_setR, xown_setR, xlen_setR, xE_setW, xsz_setW, xsl_setW, xtag_setW, xown_setW, xlen_setW, xi_setR, xi_setW, xr_setI, xr_setW, xww_setI, xww_setR, xi_setI, xr_setR, xww_setW, xE_new, xsz_new, xsl_new, hM.tx, hM.xp, hM.l3, tc30, oc30n, xsub]; done) | (simp [-List.getD_eq_getElem?_getD, xE_setI, xsz_setI, xsl_setI, xtag_setI, xown_setI, xlen_setI, xE_setR, xsz_setR, xsl_setR, xtag_setR, xown_setR, xlen_setR, xE_setW, xsz_setW, xsl_setW, xtag_setW, xown_setW, xlen_setW, xi_setR, xi_setW, xr_setI, xr_setW, xww_setI, xww_setR, xi_setI, xr_setR, xww_setW, xE_new, xsz_new, xsl_new, hM.tx, hM.xp, hM.l3, tc30, oc30n] <;> rfl)) (by first | assumption | (simp [-List.getD_eq_getElem?_getD, xE_setI, xsz_setI, xsl_setI, xtag_setI, xown_setI, xlen_setI, xE_setR, xsz_setR, xsl_setR, xtag_setR, xown_setR, xlen_setR, xE_setW, xsz_setW, xsl_setW, xtag_setW, xown_setW, xlen_setW, xi_setR, xi_setW, xr_setI, xr_setW, xww_setI, xww_setR, xi_setI, xr_setR, xww_setW, xE_new, xsz_new, xsl_new, hM.tx, hM.xp, hM.l3, tc30, oc30n]; done) | (simp [-List.getD_eq_getElem?_getD, xE_setI, xsz_setI, xsl_setI, xtag_setI, xown_setI, xlen_setI, xE_setR, xsz_setR, xsl_setR, xtag_setR, xown_setR, xlen_setR, xE_setW, xsz_setW, xsl_setW, xtag_setW, xown_setW, xlen_setW, xi_setR, xi_setW, xr_setI, xr_setW, xww_setI, xww_setR, xi_setI, xr_setR, xww_setW, xE_new, xsz_new, xsl_new, hM.tx, hM.xp, hM.l3, tc30, oc30n]; assumption)) rfl ?_
  have F2 : xFr (oP p) 0 g30 (xsetR g30 ((aC Z).getD k 0) 2 (effO g30 e)) := xFr.rf.sr (Or.inr (by rw [oc30]; exact ⟨by omega, by omega⟩))
  have hP9 : xPol (xsetR g30 ((aC Z).getD k 0) 2 (effO g30 e)) p Z (sUp (S 1) (4 + 2 * k) e) n rr ww := hP2.setO hk he2.1 he2.2 (fun j _ => rfl)
  have oKP : oKeep (oP p) := by unfold oKeep oP; omega
  have hM9 := hMc.fr (S' := fun _ => (sUp (S 1) (4 + 2 * k) e)) F2 oKP hP9
  have hD9 := hDc.fr F2 (by unfold oP; omega)
  have hPq9 := hPq.fr F2 (fun o h1 h2 => by unfold oP at h1 h2; omega) (by unfold oP; omega)
  have nx9 : ¬ oP p (xown g30 x) := by rw [hMc.ox]; unfold oP; omega
  have hx29 : xr (xsetR g30 ((aC Z).getD k 0) 2 (effO g30 e)) x 2 = some dq := (F2.r' (FC.lt hxl) nx9).trans ((FC.r' hxl nxC).trans hPa.1)
  refine xw_aload_n (pc := 52) dX1_setDefault_52 3 rfl ?_
  refine xw_aload (pc := 53) dX1_setDefault_53 1 rfl ?_
  refine xw_iload (pc := 55) dX1_setDefault_55 0 rfl ?_
  refine xw_callF (pc := 57) (xr_V (as := [_, _]) ok_X1_changed rfl (by decide) q1110 q1112 qs19 (by first | (rw [hM9.tx]; rfl) | (rw [hM.tx]; rfl)) (by first | (rw [hM9.tx]; rfl) | (rw [hM.tx]; rfl)) dX1_setDefault_57 rfl rfl (Nat.le_of_ble_eq_true rfl)) (SP_X1_changed (v := S 1 (4 + 2 * k)) hM9.tx hx29 hM9.ox hD9 hPa.2.2.2 hPq9.tag) ?_
  intro g57 hc57 hm57
  refine xw_iret (pc := 60) .int dX1_setDefault_60 rfl ?_ 
  exact ⟨rfl, _, _, _, hP9.fr hc57.2 (fun o h1 h2 => by unfold oP at h1; unfold oEq at h2; omega) (by unfold oEq; omega), Nat.le_refl _, ⟨_, _, _, _, hPq9.fr hc57.2 (fun o h1 h2 => by unfold oP at h1; unfold oEq at h2; omega) (by unfold oEq; omega)⟩, hc57.1.choose_spec, (((FC.sub (O' := oCh p (xsz g)) (fun o h1 => by unfold oP at h1; unfold oCh; omega) (Nat.le_refl _)).tr (F2.sub (fun o h1 => Or.inr (Or.inr (Or.inl h1))) (Nat.le_refl _))).tr (hc57.2.sub (fun o h1 => Or.inr (Or.inl h1)) (Nat.le_refl _))).sub (fun _ h => h) (by omega)⟩

theorem SP_X1_setDefault_T1 {d : Nat} {g : xG} {x p lk fa ka la n rr ww : Nat} {Z : xAd} {S : xMS} (hM : xMn g x p lk fa ka la Z S n rr ww) {dq da h : Nat} {ps : List Nat} (hPa : xr g x 2 = some dq ∧ xAD g 7 dq da h ps ∧ True ∧ ps.length ≤ 8) {k : Nat} {e : Int32} (hk : k < n) (hz : k ≠ 0) (he : inR e (-1) (nI 2) = true) (he2 : (e = -1 ∨ ∃ q, q < 3 ∧ e = nI q) ∧ (k = 0 → ¬ e < 0)) : XM M_X1_setDefault (d + 80) [.ref x, .int (nI k), .int e] g (xVal (.int (S 1 (4 + 2 * k))) (xChd g p dq da (S 1) ps (sUp (S 1) (4 + 2 * k) e) n rr ww)) := by
  have hlc := hM.P.lc
  have n10 := hM.P.wf.n10
  refine xm_of (by decide +kernel) (Nat.le_of_ble_eq_true rfl) ?_
  show XW _ _ 0 [(0, _), (1, _), (2, _)] [] _ _
  refine xw_aload_n (pc := 0) dX1_setDefault_0 0 rfl ?_
  refine xw_getS (b := p) (pc := 1) fd_X1_10 dX1_setDefault_1 (by first | assumption | (simp [-List.getD_eq_getElem?_getD, xE_setI, xsz_setI, xsl_setI, xtag_setI, xown_setI, xlen_setI, xE_setR, xsz_setR, xsl_setR, xtag_setR, xown_setR, xlen_setR, xE_setW, xsz_setW, xsl_setW, xtag_setW, xown_setW, xlen_setW, xi_setR, xi_setW, xr_setI, xr_setW, xww_setI, xww_setR, xi_setI, xr_setR, xww_setW, xE_new, xsz_new, xsl_new, hM.tx, hM.xp, hM.l3, xsub]; done) | (simp [-List.getD_eq_getElem?_getD, xE_setI, xsz_setI, xsl_setI, xtag_setI, xown_setI, xlen_setI, xE_setR, xsz_setR, xsl_setR, xtag_setR, xown_setR, xlen_setR, xE_setW, xsz_setW, xsl_setW, xtag_setW, xown_setW, xlen_setW, xi_setR, xi_setW, xr_setI, xr_setW, xww_setI, xww_setR, xi_setI, xr_setR, xww_setW, xE_new, xsz_new, xsl_new, hM.tx, hM.xp, hM.l3] <;> rfl)) (by simp [-List.getD_eq_getElem?_getD, xE_setI, xsz_setI, xsl_setI, xtag_setI, xown_setI, xlen_setI, xE_setR, xsz_setR, xsl_setR, xtag_setR, xown_setR, xlen_setR, xE_setW, xsz_setW, xsl_setW, xtag_setW, xown_setW, xlen_setW, xi_setR, xi_setW, xr_setI, xr_setW, xww_setI, xww_setR, xi_setI, xr_setR, xww_setW, xE_new, xsz_new, xsl_new, hM.tx, hM.xp, hM.l3]) ?_
  refine xw_iload_n (pc := 4) dX1_setDefault_4 1 rfl ?_
  refine xw_callV (pc := 5) (xr_V (as := [_]) ok_X2_scope rfl (by decide) q1056 q1057 q1058 (by rw [hM.P.tag]; rfl) (by rw [hM.P.tag]; rfl) dX1_setDefault_5 rfl rfl (Nat.le_of_ble_eq_true rfl)) (SP_X2_scope hM.P.pl k (by omega) (hM.P.so' hk)) ?_
  refine xw_astore_n (l' := [(3, _), (0, _), (1, _), (2, _)]) (pc := 8) dX1_setDefault_8 rfl (by decide) rfl ?_
  refine xw_iload_n (pc := 9) dX1_setDefault_9 3 rfl ?_
  refine xw_iload_n (pc := 10) dX1_setDefault_10 2 rfl ?_
  refine xw_if_ne (pc := 11) 18 dX1_setDefault_11 rfl (fun hb11 => ?_) (fun hb11 => ?_)
  rotate_left
  · exfalso
    replace hb11 : k = 0 := (nI_eq (a := k) (b := 0) (by omega) (by omega)).mp hb11
    omega
  replace hb11 : ¬ (k = 0) := mt (nI_eq (a := k) (b := 0) (by omega) (by omega)).mpr hb11
  refine xw_iconst (v := -1) (pc := 18) dX1_setDefault_18 (by decide +kernel) ?_
  refine xw_iconst (v := nI 2) (pc := 19) dX1_setDefault_19 rfl ?_
  refine xw_callV (pc := 20) (xr_S (as := [_, _, _]) ok_X1_isIn rfl (by decide) q1180 q784 dX1_setDefault_20 rfl rfl (Nat.le_of_ble_eq_true rfl)) (SP_X1_isInT he) ?_
  refine xw_callU (pc := 23) (xr_S (as := [_]) ok_X1_check rfl (by decide) q1181 q1182 dX1_setDefault_23 rfl rfl (Nat.le_of_ble_eq_true rfl)) (SP_X1_check_T) ?_
  refine xw_aload_n (pc := 26) dX1_setDefault_26 1 rfl ?_
  refine xw_getS (b := p) (pc := 27) fd_X1_10 dX1_setDefault_27 (by first | assumption | (simp [-List.getD_eq_getElem?_getD, xE_setI, xsz_setI, xsl_setI, xtag_setI, xown_setI, xlen_setI, xE_setR, xsz_setR, xsl_setR, xtag_setR, xown_setR, xlen_setR, xE_setW, xsz_setW, xsl_setW, xtag_setW, xown_setW, xlen_setW, xi_setR, xi_setW, xr_setI, xr_setW, xww_setI, xww_setR, xi_setI, xr_setR, xww_setW, xE_new, xsz_new, xsl_new, hM.tx, hM.xp, hM.l3, xsub]; done) | (simp [-List.getD_eq_getElem?_getD, xE_setI, xsz_setI, xsl_setI, xtag_setI, xown_setI, xlen_setI, xE_setR, xsz_setR, xsl_setR, xtag_setR, xown_setR, xlen_setR, xE_setW, xsz_setW, xsl_setW, xtag_setW, xown_setW, xlen_setW, xi_setR, xi_setW, xr_setI, xr_setW, xww_setI, xww_setR, xi_setI, xr_setR, xww_setW, xE_new, xsz_new, xsl_new, hM.tx, hM.xp, hM.l3] <;> rfl)) (by simp [-List.getD_eq_getElem?_getD, xE_setI, xsz_setI, xsl_setI, xtag_setI, xown_setI, xlen_setI, xE_setR, xsz_setR, xsl_setR, xtag_setR, xown_setR, xlen_setR, xE_setW, xsz_setW, xsl_setW, xtag_setW, xown_setW, xlen_setW, xi_setR, xi_setW, xr_setI, xr_setW, xww_setI, xww_setR, xi_setI, xr_setR, xww_setW, xE_new, xsz_new, xsl_new, hM.tx, hM.xp, hM.l3]) ?_
  refine xw_callF (pc := 30) (xr_V (as := []) ok_X2_copy rfl (by decide) q902 q903 q904 (by rw [hM.P.tag]; rfl) (by rw [hM.P.tag]; rfl) dX1_setDefault_30 rfl rfl (Nat.le_of_ble_eq_true rfl)) (SP_X2_copy (d := d + 70) hM.P) ?_
  intro g30 hc30 hm30
  obtain ⟨Zq, hPq, FC⟩ := hc30
  have hp0 := hM.P.p0
  have hlp := hM.P.lt
  have hxl : x < xsz g := xlt (by rw [hM.tx]; decide)
  have nxC : ¬ oP (xsz g) (xown g x) := by rw [hM.ox]; unfold oP; omega
  have oKC : oKeep (oP (xsz g)) := by unfold oKeep oP; omega
  have hP2 := hM.P.fr FC (fun o h1 h2 => by unfold oP at h1 h2; omega) (by unfold oP; omega)
  have hMc := hM.fr FC oKC hP2
  have hDc := hPa.2.1.fr FC (by unfold oP; omega)
  have tc30 : xtag g30 ((aC Z).getD k 0) = 3 := hP2.so' hk
  have fc30 : xr g30 ((aC Z).getD k 0) 2 = effO g30 (S 1 (4 + 2 * k)) := (hP2.sc k hk).2.2.2
  have oc30 : xown g30 ((aC Z).getD k 0) = 1000 * p := hP2.so hk
  have oc30n : ¬ xown g30 ((aC Z).getD k 0) = 0 := by rw [oc30]; omega
  refine xw_astore (l' := [(4, _), (3, _), (0, _), (1, _), (2, _)]) (pc := 33) dX1_setDefault_33 (by decide) rfl ?_
  refine xw_aload_n (pc := 35) dX1_setDefault_35 1 rfl ?_
  refine xw_getR (pc := 36) fd_X1_191 dX1_setDefault_36 (by first | assumption | (simp [-List.getD_eq_getElem?_getD, xE_setI, xsz_setI, xsl_setI, xtag_setI, xown_setI, xlen_setI, xE_setR, xsz_setR, xsl_setR, xtag_setR, xown_setR, xlen_setR, xE_setW, xsz_setW, xsl_setW, xtag_setW, xown_setW, xlen_setW, xi_setR, xi_setW, xr_setI, xr_setW, xww_setI, xww_setR, xi_setI, xr_setR, xww_setW, xE_new, xsz_new, xsl_new, hM.tx, hM.xp, hM.l3, tc30, oc30n, xsub]; done) | (simp [-List.getD_eq_getElem?_getD, xE_setI, xsz_setI, xsl_setI, xtag_setI, xown_setI, xlen_setI, xE_setR, xsz_setR, xsl_setR, xtag_setR, xown_setR, xlen_setR, xE_setW, xsz_setW, xsl_setW, xtag_setW, xown_setW, xlen_setW, xi_setR, xi_setW, xr_setI, xr_setW, xww_setI, xww_setR, xi_setI, xr_setR, xww_setW, xE_new, xsz_new, xsl_new, hM.tx, hM.xp, hM.l3, tc30, oc30n] <;> rfl)) ?_
  rw [fc30]
  refine xw_callV (pc := 39) (xr_S (as := [_]) ok_X1_numberOf rfl (by decide) q1189 q1190 dX1_setDefault_39 rfl rfl (Nat.le_of_ble_eq_true rfl)) (SP_X1_numberOf hMc.cn (hM.P.wf.e.2 k hk)) ?_
  refine xw_istore (l' := [(5, _), (4, _), (3, _), (0, _), (1, _), (2, _)]) (pc := 42) dX1_setDefault_42 (by decide) rfl ?_
  refine xw_aload_n (pc := 44) dX1_setDefault_44 2 rfl ?_
  refine xw_iload_n (pc := 45) dX1_setDefault_45 5 rfl ?_
  refine xw_callV (pc := 46) (xr_S (as := [_]) ok_X1_effectOf rfl (by decide) q1207 q1208 dX1_setDefault_46 rfl rfl (Nat.le_of_ble_eq_true rfl)) (SP_X1_effectOf) ?_
  refine xw_putR (o := (effO g30 e)) (pc := 49) fd_X1_191 (xfin_of (by decide) (by decide +kernel)) dX1_setDefault_49 (by first | assumption | (simp [-List.getD_eq_getElem?_getD, xE_setI, xsz_setI, xsl_setI, xtag_setI, xown_setI, xlen_setI, xE_setR, xsz_setR, xsl_setR, xtag_setR, xown_setR, xlen_setR, xE_setW, xsz_setW, xsl_setW, xtag_setW, xown_setW, xlen_setW, xi_setR, xi_setW, xr_setI, xr_setW, xww_setI, xww_setR, xi_setI, xr_setR, xww_setW, xE_new, xsz_new, xsl_new, hM.tx, hM.xp, hM.l3, tc30, oc30n, xsub]; done) | (simp [-List.getD_eq_getElem?_getD, xE_setI, xsz_setI, xsl_setI, xtag_setI, xown_setI, xlen_setI, xE_setR, xsz_setR, xsl_setR, xtag_setR, xown_setR, xlen_setR, xE_setW, xsz_setW, xsl_setW, xtag_setW, xown_setW, xlen_setW, xi_setR, xi_setW, xr_setI, xr_setW, xww_setI, xww_setR, xi_setI, xr_setR, xww_setW, xE_new, xsz_new, xsl_new, hM.tx, hM.xp, hM.l3, tc30, oc30n] <;> rfl)) (by first | assumption | (simp [-List.getD_eq_getElem?_getD, xE_setI, xsz_setI, xsl_setI, xtag_setI, xown_setI, xlen_setI, xE_setR, xsz_setR, xsl_setR, xtag_setR, xown_setR, xlen_setR, xE_setW, xsz_setW, xsl_setW, xtag_setW, xown_setW, xlen_setW, xi_setR, xi_setW, xr_setI, xr_setW, xww_setI, xww_setR, xi_setI, xr_setR, xww_setW, xE_new, xsz_new, xsl_new, hM.tx, hM.xp, hM.l3, tc30, oc30n]; done) | (simp [-List.getD_eq_getElem?_getD, xE_setI, xsz_setI, xsl_setI, xtag_setI, xown_setI, xlen_setI, xE_setR, xsz_setR, xsl_setR, xtag_setR, xown_setR, xlen_setR, xE_setW, xsz_setW, xsl_setW, xtag_setW, xown_setW, xlen_setW, xi_setR, xi_setW, xr_setI, xr_setW, xww_setI, xww_setR, xi_setI, xr_setR, xww_setW, xE_new, xsz_new, xsl_new, hM.tx, hM.xp, hM.l3, tc30, oc30n]; assumption)) rfl ?_
  have F2 : xFr (oP p) 0 g30 (xsetR g30 ((aC Z).getD k 0) 2 (effO g30 e)) := xFr.rf.sr (Or.inr (by rw [oc30]; exact ⟨by omega, by omega⟩))
  have hP9 : xPol (xsetR g30 ((aC Z).getD k 0) 2 (effO g30 e)) p Z (sUp (S 1) (4 + 2 * k) e) n rr ww := hP2.setO hk he2.1 he2.2 (fun j _ => rfl)
  have oKP : oKeep (oP p) := by unfold oKeep oP; omega
  have hM9 := hMc.fr (S' := fun _ => (sUp (S 1) (4 + 2 * k) e)) F2 oKP hP9
  have hD9 := hDc.fr F2 (by unfold oP; omega)
  have hPq9 := hPq.fr F2 (fun o h1 h2 => by unfold oP at h1 h2; omega) (by unfold oP; omega)
  have nx9 : ¬ oP p (xown g30 x) := by rw [hMc.ox]; unfold oP; omega
  have hx29 : xr (xsetR g30 ((aC Z).getD k 0) 2 (effO g30 e)) x 2 = some dq := (F2.r' (FC.lt hxl) nx9).trans ((FC.r' hxl nxC).trans hPa.1)
  refine xw_aload_n (pc := 52) dX1_setDefault_52 3 rfl ?_
  refine xw_aload (pc := 53) dX1_setDefault_53 1 rfl ?_
  refine xw_iload (pc := 55) dX1_setDefault_55 0 rfl ?_
  refine xw_callF (pc := 57) (xr_V (as := [_, _]) ok_X1_changed rfl (by decide) q1110 q1112 qs19 (by first | (rw [hM9.tx]; rfl) | (rw [hM.tx]; rfl)) (by first | (rw [hM9.tx]; rfl) | (rw [hM.tx]; rfl)) dX1_setDefault_57 rfl rfl (Nat.le_of_ble_eq_true rfl)) (SP_X1_changed (v := S 1 (4 + 2 * k)) hM9.tx hx29 hM9.ox hD9 hPa.2.2.2 hPq9.tag) ?_
  intro g57 hc57 hm57
  refine xw_iret (pc := 60) .int dX1_setDefault_60 rfl ?_ 
  exact ⟨rfl, _, _, _, hP9.fr hc57.2 (fun o h1 h2 => by unfold oP at h1; unfold oEq at h2; omega) (by unfold oEq; omega), Nat.le_refl _, ⟨_, _, _, _, hPq9.fr hc57.2 (fun o h1 h2 => by unfold oP at h1; unfold oEq at h2; omega) (by unfold oEq; omega)⟩, hc57.1.choose_spec, (((FC.sub (O' := oCh p (xsz g)) (fun o h1 => by unfold oP at h1; unfold oCh; omega) (Nat.le_refl _)).tr (F2.sub (fun o h1 => Or.inr (Or.inr (Or.inl h1))) (Nat.le_refl _))).tr (hc57.2.sub (fun o h1 => Or.inr (Or.inl h1)) (Nat.le_refl _))).sub (fun _ h => h) (by omega)⟩

theorem SP_X1_setDefault {d : Nat} {g : xG} {x p lk fa ka la n rr ww : Nat} {Z : xAd} {S : xMS} (hM : xMn g x p lk fa ka la Z S n rr ww) {dq da h : Nat} {ps : List Nat} (hPa : xr g x 2 = some dq ∧ xAD g 7 dq da h ps ∧ True ∧ ps.length ≤ 8) {k : Nat} {e : Int32} (hk : k < n) (he : inR e (if k = 0 then nI 0 else -1) (nI 2) = true) : XM M_X1_setDefault (d + 80) [.ref x, .int (nI k), .int e] g (xVal (.int (S 1 (4 + 2 * k))) (xChd g p dq da (S 1) ps (sUp (S 1) (4 + 2 * k) e) n rr ww)) := by
  have he2 := inR_eff he
  by_cases hz : k = 0
  · rw [if_pos hz] at he; exact SP_X1_setDefault_T0 hM hPa hk hz he he2
  · rw [if_neg hz] at he; exact SP_X1_setDefault_T1 hM hPa hk hz he he2
/-- the ints with one more scope, within k -/
def scUp (s : Nat → Int32) (n k : Nat) : Nat → Int32 := fun j => if j = 0 then nI (n + 1) else if j = 3 + 2 * n then nI k else if j = 4 + 2 * n then -1 else s j
theorem SP_X1_scope_F2 {d : Nat} {g : xG} {x p lk fa ka la n rr ww : Nat} {Z : xAd} {S : xMS} (hM : xMn g x p lk fa ka la Z S n rr ww) {k : Nat} (hk : k < n) (hn : n = 10) : XM M_X1_scope (d + 80) [.ref x, .int (nI k)] g (xThr (xsz g) (xExc g 24)) := by
  have hlc := hM.P.lc
  have n10 := hM.P.wf.n10
  have cf0 : xr g p 0 = some (aL Z 0) := hM.P.f0
  have tp0 : xtag g p = 2 := hM.P.tag
  refine xm_of (by decide +kernel) (Nat.le_of_ble_eq_true rfl) ?_
  show XW _ _ 0 [(0, _), (1, _)] [] _ _
  refine xw_aload_n (pc := 0) dX1_scope_0 0 rfl ?_
  refine xw_getS (b := p) (pc := 1) fd_X1_10 dX1_scope_1 (by first | assumption | (simp [-List.getD_eq_getElem?_getD, xE_setI, xsz_setI, xsl_setI, xtag_setI, xown_setI, xlen_setI, xE_setR, xsz_setR, xsl_setR, xtag_setR, xown_setR, xlen_setR, xE_setW, xsz_setW, xsl_setW, xtag_setW, xown_setW, xlen_setW, xi_setR, xi_setW, xr_setI, xr_setW, xww_setI, xww_setR, xi_setI, xr_setR, xww_setW, xE_new, xsz_new, xsl_new, hM.tx, hM.xp, hM.l3, cf0, tp0, xsub]; done) | (simp [-List.getD_eq_getElem?_getD, xE_setI, xsz_setI, xsl_setI, xtag_setI, xown_setI, xlen_setI, xE_setR, xsz_setR, xsl_setR, xtag_setR, xown_setR, xlen_setR, xE_setW, xsz_setW, xsl_setW, xtag_setW, xown_setW, xlen_setW, xi_setR, xi_setW, xr_setI, xr_setW, xww_setI, xww_setR, xi_setI, xr_setR, xww_setW, xE_new, xsz_new, xsl_new, hM.tx, hM.xp, hM.l3, cf0, tp0] <;> rfl)) (by simp [-List.getD_eq_getElem?_getD, xE_setI, xsz_setI, xsl_setI, xtag_setI, xown_setI, xlen_setI, xE_setR, xsz_setR, xsl_setR, xtag_setR, xown_setR, xlen_setR, xE_setW, xsz_setW, xsl_setW, xtag_setW, xown_setW, xlen_setW, xi_setR, xi_setW, xr_setI, xr_setW, xww_setI, xww_setR, xi_setI, xr_setR, xww_setW, xE_new, xsz_new, xsl_new, hM.tx, hM.xp, hM.l3, cf0, tp0]) ?_
  refine xw_iload_n (pc := 4) dX1_scope_4 1 rfl ?_
  refine xw_callV (pc := 5) (xr_V (as := [_]) ok_X2_scope rfl (by decide) q1056 q1057 q1058 (by rw [hM.P.tag]; rfl) (by rw [hM.P.tag]; rfl) dX1_scope_5 rfl rfl (Nat.le_of_ble_eq_true rfl)) (SP_X2_scope hM.P.pl k (by omega) (hM.P.so' hk)) ?_
  refine xw_astore_n (l' := [(2, _), (0, _), (1, _)]) (pc := 8) dX1_scope_8 rfl (by decide) rfl ?_
  refine xw_aload_n (pc := 9) dX1_scope_9 1 rfl ?_
  refine xw_getS (b := p) (pc := 10) fd_X1_10 dX1_scope_10 (by first | assumption | (simp [-List.getD_eq_getElem?_getD, xE_setI, xsz_setI, xsl_setI, xtag_setI, xown_setI, xlen_setI, xE_setR, xsz_setR, xsl_setR, xtag_setR, xown_setR, xlen_setR, xE_setW, xsz_setW, xsl_setW, xtag_setW, xown_setW, xlen_setW, xi_setR, xi_setW, xr_setI, xr_setW, xww_setI, xww_setR, xi_setI, xr_setR, xww_setW, xE_new, xsz_new, xsl_new, hM.tx, hM.xp, hM.l3, cf0, tp0, xsub]; done) | (simp [-List.getD_eq_getElem?_getD, xE_setI, xsz_setI, xsl_setI, xtag_setI, xown_setI, xlen_setI, xE_setR, xsz_setR, xsl_setR, xtag_setR, xown_setR, xlen_setR, xE_setW, xsz_setW, xsl_setW, xtag_setW, xown_setW, xlen_setW, xi_setR, xi_setW, xr_setI, xr_setW, xww_setI, xww_setR, xi_setI, xr_setR, xww_setW, xE_new, xsz_new, xsl_new, hM.tx, hM.xp, hM.l3, cf0, tp0] <;> rfl)) (by simp [-List.getD_eq_getElem?_getD, xE_setI, xsz_setI, xsl_setI, xtag_setI, xown_setI, xlen_setI, xE_setR, xsz_setR, xsl_setR, xtag_setR, xown_setR, xlen_setR, xE_setW, xsz_setW, xsl_setW, xtag_setW, xown_setW, xlen_setW, xi_setR, xi_setW, xr_setI, xr_setW, xww_setI, xww_setR, xi_setI, xr_setR, xww_setW, xE_new, xsz_new, xsl_new, hM.tx, hM.xp, hM.l3, cf0, tp0]) ?_
  refine xw_getS (b := (aL Z 0)) (pc := 13) fd_X1_164 dX1_scope_13 (by first | assumption | (simp [-List.getD_eq_getElem?_getD, xE_setI, xsz_setI, xsl_setI, xtag_setI, xown_setI, xlen_setI, xE_setR, xsz_setR, xsl_setR, xtag_setR, xown_setR, xlen_setR, xE_setW, xsz_setW, xsl_setW, xtag_setW, xown_setW, xlen_setW, xi_setR, xi_setW, xr_setI, xr_setW, xww_setI, xww_setR, xi_setI, xr_setR, xww_setW, xE_new, xsz_new, xsl_new, hM.tx, hM.xp, hM.l3, cf0, tp0, xsub]; done) | (simp [-List.getD_eq_getElem?_getD, xE_setI, xsz_setI, xsl_setI, xtag_setI, xown_setI, xlen_setI, xE_setR, xsz_setR, xsl_setR, xtag_setR, xown_setR, xlen_setR, xE_setW, xsz_setW, xsl_setW, xtag_setW, xown_setW, xlen_setW, xi_setR, xi_setW, xr_setI, xr_setW, xww_setI, xww_setR, xi_setI, xr_setR, xww_setW, xE_new, xsz_new, xsl_new, hM.tx, hM.xp, hM.l3, cf0, tp0] <;> rfl)) (by simp [-List.getD_eq_getElem?_getD, xE_setI, xsz_setI, xsl_setI, xtag_setI, xown_setI, xlen_setI, xE_setR, xsz_setR, xsl_setR, xtag_setR, xown_setR, xlen_setR, xE_setW, xsz_setW, xsl_setW, xtag_setW, xown_setW, xlen_setW, xi_setR, xi_setW, xr_setI, xr_setW, xww_setI, xww_setR, xi_setI, xr_setR, xww_setW, xE_new, xsz_new, xsl_new, hM.tx, hM.xp, hM.l3, cf0, tp0]) ?_
  refine xw_callV (pc := 16) (xr_V (as := []) ok_J2_size rfl (by decide) q701 q702 q703 (by first | (rw [hP3.l0.1]; rfl) | (rw [hP2.l0.1]; rfl) | (rw [hM.P.l0.1]; rfl)) (by first | (rw [hP3.l0.1]; rfl) | (rw [hP2.l0.1]; rfl) | (rw [hM.P.l0.1]; rfl)) dX1_scope_16 rfl rfl (Nat.le_of_ble_eq_true rfl)) (SP_J2_size hM.P.l0) ?_
  refine xw_bipush (v := nI 10) (pc := 19) dX1_scope_19 (by decide +kernel) ?_
  refine xw_icmp_ge (pc := 21) 28 dX1_scope_21 rfl (fun hb21 => ?_) (fun hb21 => ?_)
  rotate_left
  · exfalso
    replace hb21 : ¬ (10 ≤ (aC Z).length) := mt (nI_leI (a := 10) (b := (aC Z).length) (by omega) (by omega)).mpr hb21
    omega
  replace hb21 : 10 ≤ (aC Z).length := (nI_leI (a := 10) (b := (aC Z).length) (by omega) (by omega)).mp hb21
  refine xw_iconst (v := nI 0) (pc := 28) dX1_scope_28 rfl ?_
  refine xw_callX (pc := 29) (xr_S (as := [_]) ok_X1_checkState rfl (by decide) q1089 q1090 dX1_scope_29 rfl rfl (Nat.le_of_ble_eq_true rfl)) (SP_X1_checkState_F) ?_
  exact xx_out0 rfl (by rw [xExc_tag]; decide) (by rw [xExc_tag]; decide) (by rw [xExc_own]; decide) ⟨rfl, rfl⟩

theorem SP_X1_scope {d : Nat} {g : xG} {x p lk fa ka la n rr ww : Nat} {Z : xAd} {S : xMS} (hM : xMn g x p lk fa ka la Z S n rr ww) {dq da h : Nat} {ps : List Nat} (hPa : xr g x 2 = some dq ∧ xAD g 7 dq da h ps ∧ True ∧ ps.length ≤ 8) {k : Nat} (hk : k < n) (hn : n < 10) : XM M_X1_scope (d + 80) [.ref x, .int (nI k)] g (xVal (.int (nI n)) (xChd g p dq da (S 1) ps (scUp (S 1) n k) (n + 1) rr ww)) := by
  have hlc := hM.P.lc
  have n10 := hM.P.wf.n10
  have cf0 : xr g p 0 = some (aL Z 0) := hM.P.f0
  have tp0 : xtag g p = 2 := hM.P.tag
  refine xm_of (by decide +kernel) (Nat.le_of_ble_eq_true rfl) ?_
  show XW _ _ 0 [(0, _), (1, _)] [] _ _
  refine xw_aload_n (pc := 0) dX1_scope_0 0 rfl ?_
  refine xw_getS (b := p) (pc := 1) fd_X1_10 dX1_scope_1 (by first | assumption | (simp [-List.getD_eq_getElem?_getD, xE_setI, xsz_setI, xsl_setI, xtag_setI, xown_setI, xlen_setI, xE_setR, xsz_setR, xsl_setR, xtag_setR, xown_setR, xlen_setR, xE_setW, xsz_setW, xsl_setW, xtag_setW, xown_setW, xlen_setW, xi_setR, xi_setW, xr_setI, xr_setW, xww_setI, xww_setR, xi_setI, xr_setR, xww_setW, xE_new, xsz_new, xsl_new, hM.tx, hM.xp, hM.l3, cf0, tp0, xsub]; done) | (simp [-List.getD_eq_getElem?_getD, xE_setI, xsz_setI, xsl_setI, xtag_setI, xown_setI, xlen_setI, xE_setR, xsz_setR, xsl_setR, xtag_setR, xown_setR, xlen_setR, xE_setW, xsz_setW, xsl_setW, xtag_setW, xown_setW, xlen_setW, xi_setR, xi_setW, xr_setI, xr_setW, xww_setI, xww_setR, xi_setI, xr_setR, xww_setW, xE_new, xsz_new, xsl_new, hM.tx, hM.xp, hM.l3, cf0, tp0] <;> rfl)) (by simp [-List.getD_eq_getElem?_getD, xE_setI, xsz_setI, xsl_setI, xtag_setI, xown_setI, xlen_setI, xE_setR, xsz_setR, xsl_setR, xtag_setR, xown_setR, xlen_setR, xE_setW, xsz_setW, xsl_setW, xtag_setW, xown_setW, xlen_setW, xi_setR, xi_setW, xr_setI, xr_setW, xww_setI, xww_setR, xi_setI, xr_setR, xww_setW, xE_new, xsz_new, xsl_new, hM.tx, hM.xp, hM.l3, cf0, tp0]) ?_
  refine xw_iload_n (pc := 4) dX1_scope_4 1 rfl ?_
  refine xw_callV (pc := 5) (xr_V (as := [_]) ok_X2_scope rfl (by decide) q1056 q1057 q1058 (by rw [hM.P.tag]; rfl) (by rw [hM.P.tag]; rfl) dX1_scope_5 rfl rfl (Nat.le_of_ble_eq_true rfl)) (SP_X2_scope hM.P.pl k (by omega) (hM.P.so' hk)) ?_
  refine xw_astore_n (l' := [(2, _), (0, _), (1, _)]) (pc := 8) dX1_scope_8 rfl (by decide) rfl ?_
  refine xw_aload_n (pc := 9) dX1_scope_9 1 rfl ?_
  refine xw_getS (b := p) (pc := 10) fd_X1_10 dX1_scope_10 (by first | assumption | (simp [-List.getD_eq_getElem?_getD, xE_setI, xsz_setI, xsl_setI, xtag_setI, xown_setI, xlen_setI, xE_setR, xsz_setR, xsl_setR, xtag_setR, xown_setR, xlen_setR, xE_setW, xsz_setW, xsl_setW, xtag_setW, xown_setW, xlen_setW, xi_setR, xi_setW, xr_setI, xr_setW, xww_setI, xww_setR, xi_setI, xr_setR, xww_setW, xE_new, xsz_new, xsl_new, hM.tx, hM.xp, hM.l3, cf0, tp0, xsub]; done) | (simp [-List.getD_eq_getElem?_getD, xE_setI, xsz_setI, xsl_setI, xtag_setI, xown_setI, xlen_setI, xE_setR, xsz_setR, xsl_setR, xtag_setR, xown_setR, xlen_setR, xE_setW, xsz_setW, xsl_setW, xtag_setW, xown_setW, xlen_setW, xi_setR, xi_setW, xr_setI, xr_setW, xww_setI, xww_setR, xi_setI, xr_setR, xww_setW, xE_new, xsz_new, xsl_new, hM.tx, hM.xp, hM.l3, cf0, tp0] <;> rfl)) (by simp [-List.getD_eq_getElem?_getD, xE_setI, xsz_setI, xsl_setI, xtag_setI, xown_setI, xlen_setI, xE_setR, xsz_setR, xsl_setR, xtag_setR, xown_setR, xlen_setR, xE_setW, xsz_setW, xsl_setW, xtag_setW, xown_setW, xlen_setW, xi_setR, xi_setW, xr_setI, xr_setW, xww_setI, xww_setR, xi_setI, xr_setR, xww_setW, xE_new, xsz_new, xsl_new, hM.tx, hM.xp, hM.l3, cf0, tp0]) ?_
  refine xw_getS (b := (aL Z 0)) (pc := 13) fd_X1_164 dX1_scope_13 (by first | assumption | (simp [-List.getD_eq_getElem?_getD, xE_setI, xsz_setI, xsl_setI, xtag_setI, xown_setI, xlen_setI, xE_setR, xsz_setR, xsl_setR, xtag_setR, xown_setR, xlen_setR, xE_setW, xsz_setW, xsl_setW, xtag_setW, xown_setW, xlen_setW, xi_setR, xi_setW, xr_setI, xr_setW, xww_setI, xww_setR, xi_setI, xr_setR, xww_setW, xE_new, xsz_new, xsl_new, hM.tx, hM.xp, hM.l3, cf0, tp0, xsub]; done) | (simp [-List.getD_eq_getElem?_getD, xE_setI, xsz_setI, xsl_setI, xtag_setI, xown_setI, xlen_setI, xE_setR, xsz_setR, xsl_setR, xtag_setR, xown_setR, xlen_setR, xE_setW, xsz_setW, xsl_setW, xtag_setW, xown_setW, xlen_setW, xi_setR, xi_setW, xr_setI, xr_setW, xww_setI, xww_setR, xi_setI, xr_setR, xww_setW, xE_new, xsz_new, xsl_new, hM.tx, hM.xp, hM.l3, cf0, tp0] <;> rfl)) (by simp [-List.getD_eq_getElem?_getD, xE_setI, xsz_setI, xsl_setI, xtag_setI, xown_setI, xlen_setI, xE_setR, xsz_setR, xsl_setR, xtag_setR, xown_setR, xlen_setR, xE_setW, xsz_setW, xsl_setW, xtag_setW, xown_setW, xlen_setW, xi_setR, xi_setW, xr_setI, xr_setW, xww_setI, xww_setR, xi_setI, xr_setR, xww_setW, xE_new, xsz_new, xsl_new, hM.tx, hM.xp, hM.l3, cf0, tp0]) ?_
  refine xw_callV (pc := 16) (xr_V (as := []) ok_J2_size rfl (by decide) q701 q702 q703 (by first | (rw [hP3.l0.1]; rfl) | (rw [hP2.l0.1]; rfl) | (rw [hM.P.l0.1]; rfl)) (by first | (rw [hP3.l0.1]; rfl) | (rw [hP2.l0.1]; rfl) | (rw [hM.P.l0.1]; rfl)) dX1_scope_16 rfl rfl (Nat.le_of_ble_eq_true rfl)) (SP_J2_size hM.P.l0) ?_
  refine xw_bipush (v := nI 10) (pc := 19) dX1_scope_19 (by decide +kernel) ?_
  refine xw_icmp_ge (pc := 21) 28 dX1_scope_21 rfl (fun hb21 => ?_) (fun hb21 => ?_)
  · exfalso
    replace hb21 : 10 ≤ (aC Z).length := (nI_leI (a := 10) (b := (aC Z).length) (by omega) (by omega)).mp hb21
    omega
  replace hb21 : ¬ (10 ≤ (aC Z).length) := mt (nI_leI (a := 10) (b := (aC Z).length) (by omega) (by omega)).mpr hb21
  refine xw_iconst (v := nI 1) (pc := 24) dX1_scope_24 rfl ?_
  refine xw_goto (pc := 25) 29 dX1_scope_25 rfl ?_
  refine xw_callU (pc := 29) (xr_S (as := [_]) ok_X1_checkState rfl (by decide) q1089 q1090 dX1_scope_29 rfl rfl (Nat.le_of_ble_eq_true rfl)) (SP_X1_checkState_T) ?_
  refine xw_aload_n (pc := 32) dX1_scope_32 1 rfl ?_
  refine xw_getS (b := p) (pc := 33) fd_X1_10 dX1_scope_33 (by first | assumption | (simp [-List.getD_eq_getElem?_getD, xE_setI, xsz_setI, xsl_setI, xtag_setI, xown_setI, xlen_setI, xE_setR, xsz_setR, xsl_setR, xtag_setR, xown_setR, xlen_setR, xE_setW, xsz_setW, xsl_setW, xtag_setW, xown_setW, xlen_setW, xi_setR, xi_setW, xr_setI, xr_setW, xww_setI, xww_setR, xi_setI, xr_setR, xww_setW, xE_new, xsz_new, xsl_new, hM.tx, hM.xp, hM.l3, cf0, tp0, xsub]; done) | (simp [-List.getD_eq_getElem?_getD, xE_setI, xsz_setI, xsl_setI, xtag_setI, xown_setI, xlen_setI, xE_setR, xsz_setR, xsl_setR, xtag_setR, xown_setR, xlen_setR, xE_setW, xsz_setW, xsl_setW, xtag_setW, xown_setW, xlen_setW, xi_setR, xi_setW, xr_setI, xr_setW, xww_setI, xww_setR, xi_setI, xr_setR, xww_setW, xE_new, xsz_new, xsl_new, hM.tx, hM.xp, hM.l3, cf0, tp0] <;> rfl)) (by simp [-List.getD_eq_getElem?_getD, xE_setI, xsz_setI, xsl_setI, xtag_setI, xown_setI, xlen_setI, xE_setR, xsz_setR, xsl_setR, xtag_setR, xown_setR, xlen_setR, xE_setW, xsz_setW, xsl_setW, xtag_setW, xown_setW, xlen_setW, xi_setR, xi_setW, xr_setI, xr_setW, xww_setI, xww_setR, xi_setI, xr_setR, xww_setW, xE_new, xsz_new, xsl_new, hM.tx, hM.xp, hM.l3, cf0, tp0]) ?_
  refine xw_callF (pc := 36) (xr_V (as := []) ok_X2_copy rfl (by decide) q902 q903 q904 (by rw [hM.P.tag]; rfl) (by rw [hM.P.tag]; rfl) dX1_scope_36 rfl rfl (Nat.le_of_ble_eq_true rfl)) (SP_X2_copy (d := d + 70) hM.P) ?_
  intro g36 hc36 hm36
  obtain ⟨Zq, hPq, FC⟩ := hc36
  have hp0 := hM.P.p0
  have hlp := hM.P.lt
  have hxl : x < xsz g := xlt (by rw [hM.tx]; decide)
  have nxC : ¬ oP (xsz g) (xown g x) := by rw [hM.ox]; unfold oP; omega
  have oKC : oKeep (oP (xsz g)) := by unfold oKeep oP; omega
  have hP2 := hM.P.fr FC (fun o h1 h2 => by unfold oP at h1 h2; omega) (by unfold oP; omega)
  have hMc := hM.fr FC oKC hP2
  have hDc := hPa.2.1.fr FC (by unfold oP; omega)
  have cf36 : xr g36 p 0 = some (aL Z 0) := hP2.f0
  have tp36 : xtag g36 p = 2 := hP2.tag
  have tx36 : xtag g36 x = 1 := hMc.tx
  have xp36 : xr g36 x 0 = some p := hMc.xp
  refine xw_astore_n (l' := [(3, _), (2, _), (0, _), (1, _)]) (pc := 39) dX1_scope_39 rfl (by decide) rfl ?_
  refine xw_aload_n (pc := 40) dX1_scope_40 2 rfl ?_
  refine xw_getS (b := p) (pc := 41) fd_X1_10 dX1_scope_41 (by first | assumption | (simp [-List.getD_eq_getElem?_getD, xE_setI, xsz_setI, xsl_setI, xtag_setI, xown_setI, xlen_setI, xE_setR, xsz_setR, xsl_setR, xtag_setR, xown_setR, xlen_setR, xE_setW, xsz_setW, xsl_setW, xtag_setW, xown_setW, xlen_setW, xi_setR, xi_setW, xr_setI, xr_setW, xww_setI, xww_setR, xi_setI, xr_setR, xww_setW, xE_new, xsz_new, xsl_new, hM.tx, hM.xp, hM.l3, cf0, tp0, cf36, tp36, tx36, xp36, xsub]; done) | (simp [-List.getD_eq_getElem?_getD, xE_setI, xsz_setI, xsl_setI, xtag_setI, xown_setI, xlen_setI, xE_setR, xsz_setR, xsl_setR, xtag_setR, xown_setR, xlen_setR, xE_setW, xsz_setW, xsl_setW, xtag_setW, xown_setW, xlen_setW, xi_setR, xi_setW, xr_setI, xr_setW, xww_setI, xww_setR, xi_setI, xr_setR, xww_setW, xE_new, xsz_new, xsl_new, hM.tx, hM.xp, hM.l3, cf0, tp0, cf36, tp36, tx36, xp36] <;> rfl)) (by simp [-List.getD_eq_getElem?_getD, xE_setI, xsz_setI, xsl_setI, xtag_setI, xown_setI, xlen_setI, xE_setR, xsz_setR, xsl_setR, xtag_setR, xown_setR, xlen_setR, xE_setW, xsz_setW, xsl_setW, xtag_setW, xown_setW, xlen_setW, xi_setR, xi_setW, xr_setI, xr_setW, xww_setI, xww_setR, xi_setI, xr_setR, xww_setW, xE_new, xsz_new, xsl_new, hM.tx, hM.xp, hM.l3, cf0, tp0, cf36, tp36, tx36, xp36]) ?_
  refine xw_getS (b := (aL Z 0)) (pc := 44) fd_X1_164 dX1_scope_44 (by first | assumption | (simp [-List.getD_eq_getElem?_getD, xE_setI, xsz_setI, xsl_setI, xtag_setI, xown_setI, xlen_setI, xE_setR, xsz_setR, xsl_setR, xtag_setR, xown_setR, xlen_setR, xE_setW, xsz_setW, xsl_setW, xtag_setW, xown_setW, xlen_setW, xi_setR, xi_setW, xr_setI, xr_setW, xww_setI, xww_setR, xi_setI, xr_setR, xww_setW, xE_new, xsz_new, xsl_new, hM.tx, hM.xp, hM.l3, cf0, tp0, cf36, tp36, tx36, xp36, xsub]; done) | (simp [-List.getD_eq_getElem?_getD, xE_setI, xsz_setI, xsl_setI, xtag_setI, xown_setI, xlen_setI, xE_setR, xsz_setR, xsl_setR, xtag_setR, xown_setR, xlen_setR, xE_setW, xsz_setW, xsl_setW, xtag_setW, xown_setW, xlen_setW, xi_setR, xi_setW, xr_setI, xr_setW, xww_setI, xww_setR, xi_setI, xr_setR, xww_setW, xE_new, xsz_new, xsl_new, hM.tx, hM.xp, hM.l3, cf0, tp0, cf36, tp36, tx36, xp36] <;> rfl)) (by simp [-List.getD_eq_getElem?_getD, xE_setI, xsz_setI, xsl_setI, xtag_setI, xown_setI, xlen_setI, xE_setR, xsz_setR, xsl_setR, xtag_setR, xown_setR, xlen_setR, xE_setW, xsz_setW, xsl_setW, xtag_setW, xown_setW, xlen_setW, xi_setR, xi_setW, xr_setI, xr_setW, xww_setI, xww_setR, xi_setI, xr_setR, xww_setW, xE_new, xsz_new, xsl_new, hM.tx, hM.xp, hM.l3, cf0, tp0, cf36, tp36, tx36, xp36]) ?_
  refine xw_callV (pc := 47) (xr_V (as := []) ok_J2_size rfl (by decide) q701 q702 q703 (by first | (rw [hP3.l0.1]; rfl) | (rw [hP2.l0.1]; rfl) | (rw [hM.P.l0.1]; rfl)) (by first | (rw [hP3.l0.1]; rfl) | (rw [hP2.l0.1]; rfl) | (rw [hM.P.l0.1]; rfl)) dX1_scope_47 rfl rfl (Nat.le_of_ble_eq_true rfl)) (SP_J2_size hP2.l0) ?_
  refine xw_istore (l' := [(4, _), (3, _), (2, _), (0, _), (1, _)]) (pc := 50) dX1_scope_50 (by decide) rfl ?_
  refine xw_aload_n (pc := 52) dX1_scope_52 3 rfl ?_
  refine xw_getS (b := p) (pc := 53) fd_X1_10 dX1_scope_53 (by first | assumption | (simp [-List.getD_eq_getElem?_getD, xE_setI, xsz_setI, xsl_setI, xtag_setI, xown_setI, xlen_setI, xE_setR, xsz_setR, xsl_setR, xtag_setR, xown_setR, xlen_setR, xE_setW, xsz_setW, xsl_setW, xtag_setW, xown_setW, xlen_setW, xi_setR, xi_setW, xr_setI, xr_setW, xww_setI, xww_setR, xi_setI, xr_setR, xww_setW, xE_new, xsz_new, xsl_new, hM.tx, hM.xp, hM.l3, cf0, tp0, cf36, tp36, tx36, xp36, xsub]; done) | (simp [-List.getD_eq_getElem?_getD, xE_setI, xsz_setI, xsl_setI, xtag_setI, xown_setI, xlen_setI, xE_setR, xsz_setR, xsl_setR, xtag_setR, xown_setR, xlen_setR, xE_setW, xsz_setW, xsl_setW, xtag_setW, xown_setW, xlen_setW, xi_setR, xi_setW, xr_setI, xr_setW, xww_setI, xww_setR, xi_setI, xr_setR, xww_setW, xE_new, xsz_new, xsl_new, hM.tx, hM.xp, hM.l3, cf0, tp0, cf36, tp36, tx36, xp36] <;> rfl)) (by simp [-List.getD_eq_getElem?_getD, xE_setI, xsz_setI, xsl_setI, xtag_setI, xown_setI, xlen_setI, xE_setR, xsz_setR, xsl_setR, xtag_setR, xown_setR, xlen_setR, xE_setW, xsz_setW, xsl_setW, xtag_setW, xown_setW, xlen_setW, xi_setR, xi_setW, xr_setI, xr_setW, xww_setI, xww_setR, xi_setI, xr_setR, xww_setW, xE_new, xsz_new, xsl_new, hM.tx, hM.xp, hM.l3, cf0, tp0, cf36, tp36, tx36, xp36]) ?_
  refine xw_getS (b := (aL Z 0)) (pc := 56) fd_X1_164 dX1_scope_56 (by first | assumption | (simp [-List.getD_eq_getElem?_getD, xE_setI, xsz_setI, xsl_setI, xtag_setI, xown_setI, xlen_setI, xE_setR, xsz_setR, xsl_setR, xtag_setR, xown_setR, xlen_setR, xE_setW, xsz_setW, xsl_setW, xtag_setW, xown_setW, xlen_setW, xi_setR, xi_setW, xr_setI, xr_setW, xww_setI, xww_setR, xi_setI, xr_setR, xww_setW, xE_new, xsz_new, xsl_new, hM.tx, hM.xp, hM.l3, cf0, tp0, cf36, tp36, tx36, xp36, xsub]; done) | (simp [-List.getD_eq_getElem?_getD, xE_setI, xsz_setI, xsl_setI, xtag_setI, xown_setI, xlen_setI, xE_setR, xsz_setR, xsl_setR, xtag_setR, xown_setR, xlen_setR, xE_setW, xsz_setW, xsl_setW, xtag_setW, xown_setW, xlen_setW, xi_setR, xi_setW, xr_setI, xr_setW, xww_setI, xww_setR, xi_setI, xr_setR, xww_setW, xE_new, xsz_new, xsl_new, hM.tx, hM.xp, hM.l3, cf0, tp0, cf36, tp36, tx36, xp36] <;> rfl)) (by simp [-List.getD_eq_getElem?_getD, xE_setI, xsz_setI, xsl_setI, xtag_setI, xown_setI, xlen_setI, xE_setR, xsz_setR, xsl_setR, xtag_setR, xown_setR, xlen_setR, xE_setW, xsz_setW, xsl_setW, xtag_setW, xown_setW, xlen_setW, xi_setR, xi_setW, xr_setI, xr_setW, xww_setI, xww_setR, xi_setI, xr_setR, xww_setW, xE_new, xsz_new, xsl_new, hM.tx, hM.xp, hM.l3, cf0, tp0, cf36, tp36, tx36, xp36]) ?_
  refine xw_new (t := 3) (pc := 59) (1000 * p) dX1_scope_59 rfl (by decide) (by first | decide | assumption | omega) q1107 q505 q113 ?_
  refine xw_at (a := (xsz g36)) (by rfl) ?_
  refine xw_dup (pc := 62) dX1_scope_62 rfl ?_
  refine xw_aload_n (pc := 63) dX1_scope_63 2 rfl ?_
  refine xw_iload (pc := 64) dX1_scope_64 0 rfl ?_
  refine xw_null (pc := 66) dX1_scope_66 ?_
  refine xw_callU (pc := 67) (xr_I (as := [_, _, _]) ok_X3_init rfl (by decide) q1108 q509 rfl rfl dX1_scope_67 rfl rfl (Nat.le_of_ble_eq_true rfl)) (SP_X3_new (g := g36) (o := 1000 * p) (out := some ((aC Z).getD k 0)) (own := none) (k := nI (aC Z).length) (by omega)) ?_
  have hN := xSN_a (g := g36) (o := 1000 * p) (out := some ((aC Z).getD k 0)) (k := nI (aC Z).length) (own := none)
  have FN : xFr (oP p) 4 g36 (xSN g36 (1000 * p) (some ((aC Z).getD k 0)) (nI (aC Z).length) none) := xSN.fr (N := 0) xFr.rf
  have FNo : xFr oNo 4 g36 (xSN g36 (1000 * p) (some ((aC Z).getD k 0)) (nI (aC Z).length) none) := xSN.fr (N := 0) xFr.rf
  have hP3 := hP2.fr FNo (fun o _ h => h) (fun h => h)
  refine xw_callF (pc := 70) (xr_V (as := [_]) ok_J2_add rfl (by decide) q1109 q529 q530 (by first | (rw [hP3.l0.1]; rfl) | (rw [hP2.l0.1]; rfl) | (rw [hM.P.l0.1]; rfl)) (by first | (rw [hP3.l0.1]; rfl) | (rw [hP2.l0.1]; rfl) | (rw [hM.P.l0.1]; rfl)) dX1_scope_70 rfl rfl (Nat.le_of_ble_eq_true rfl)) (SP_J2_addF hP3.l0 (by omega) (xObj_S hN.1) (by have := hP3.c0; omega)) ?_
  intro g70 hc70 hm70
  have F2 : xFr (oP p) 4 g36 g70 := FN.tr (hc70.2.sub (m := 0) (fun o h1 => by unfold oEq at h1; unfold oP; omega) (Nat.le_refl _))
  have hNl : xsz g36 < xsz (xSN g36 (1000 * p) (some ((aC Z).getD k 0)) (nI (aC Z).length) none) := xlt (by rw [hN.1]; decide)
  have hNo : ¬ oEq (1000 * p + 1) (xown (xSN g36 (1000 * p) (some ((aC Z).getD k 0)) (nI (aC Z).length) none) (xsz g36)) := by rw [hN.2.1]; unfold oEq; omega
  have hP9 : xPol g70 p (Z.1, aC Z ++ [xsz g36], Z.2.2) (scUp (S 1) n k) (n + 1) rr ww := hP3.addC hc70.2 hc70.1 hn hk ((hc70.2.tag hNl).trans hN.1) ((hc70.2.own hNl).trans hN.2.1) ((hc70.2.i' hNl hNo).trans (hN.2.2.2.1.trans (by rw [hlc]))) ((hc70.2.r' hNl hNo).trans hN.2.2.1) ((hc70.2.r' hNl hNo).trans hN.2.2.2.2) (fun j _ => rfl)
  have oKP : oKeep (oP p) := by unfold oKeep oP; omega
  have hM9 := hMc.fr (S' := fun _ => (scUp (S 1) n k)) F2 oKP hP9
  have hD9 := hDc.fr F2 (by unfold oP; omega)
  have hPq9 := hPq.fr F2 (fun o h1 h2 => by unfold oP at h1 h2; omega) (by unfold oP; omega)
  have nx9 : ¬ oP p (xown g36 x) := by rw [hMc.ox]; unfold oP; omega
  have hx29 : xr g70 x 2 = some dq := (F2.r' (FC.lt hxl) nx9).trans ((FC.r' hxl nxC).trans hPa.1)
  refine xw_pop (pc := 73) dX1_scope_73 rfl ?_
  refine xw_aload_n (pc := 74) dX1_scope_74 3 rfl ?_
  refine xw_aload_n (pc := 75) dX1_scope_75 1 rfl ?_
  refine xw_iload (pc := 76) dX1_scope_76 0 rfl ?_
  refine xw_callF (pc := 78) (xr_V (as := [_, _]) ok_X1_changed rfl (by decide) q1110 q1112 qs19 (by first | (rw [hM9.tx]; rfl) | (rw [hM.tx]; rfl)) (by first | (rw [hM9.tx]; rfl) | (rw [hM.tx]; rfl)) dX1_scope_78 rfl rfl (Nat.le_of_ble_eq_true rfl)) (SP_X1_changed (v := nI (aC Z).length) hM9.tx hx29 hM9.ox hD9 hPa.2.2.2 hPq9.tag) ?_
  intro g78 hc78 hm78
  refine xw_iret (pc := 81) .int dX1_scope_81 rfl ?_ 
  exact ⟨by rw [hlc], _, _, _, hP9.fr hc78.2 (fun o h1 h2 => by unfold oP at h1; unfold oEq at h2; omega) (by unfold oEq; omega), Nat.le_refl _, ⟨_, _, _, _, hPq9.fr hc78.2 (fun o h1 h2 => by unfold oP at h1; unfold oEq at h2; omega) (by unfold oEq; omega)⟩, hc78.1.choose_spec, (((FC.sub (O' := oCh p (xsz g)) (fun o h1 => by unfold oP at h1; unfold oCh; omega) (Nat.le_refl _)).tr (F2.sub (fun o h1 => Or.inr (Or.inr (Or.inl h1))) (Nat.le_refl _))).tr (hc78.2.sub (fun o h1 => Or.inr (Or.inl h1)) (Nat.le_refl _))).sub (fun _ h => h) (by omega)⟩

