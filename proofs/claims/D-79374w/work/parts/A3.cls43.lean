/-! CLASS 43: laid on the sheet -/
set_option maxRecDepth 100000
/-- the sheet's ints with the test k of the rule r at pl -/
def shUp (s9 s : Nat → Int32) (r k pl : Nat) : Nat → Int32 := fun j => if 3 * pl ≤ j ∧ j < 3 * pl + 3 then s (23 + 20 * r + (8 + 3 * k + (j - 3 * pl))) else s9 j
theorem xShQ.put {g : xG} {sh Q sg b pl : Nat} {s9 s' : Nat → Int32} (h : xShQ g sh Q sg s9) (hpl : pl < 6) (hT : xTe g b s' (3 * pl)) (hok : sg = 4 ∨ s' (3 * pl + 1) = nI sg) (hs : ∀ j, j < 3 * pl ∨ 3 * pl + 3 ≤ j → s' j = s9 j) : xShQ (xsetR g sh pl (some b)) sh Q sg s' := by
  obtain ⟨a1, a2, a3, a4, a5, a6⟩ := h
  have F : xFr (oEq 8) 0 g (xsetR g sh pl (some b)) := xFr.rf.sr (Or.inr a1)
  refine ⟨by rw [xown_setR]; exact a1, a2, by rw [xtag_setR]; exact a3, a4, by rw [xlen_setR]; exact a5, fun k hk => ?_⟩
  by_cases e : k = pl
  · subst e
    exact Or.inr ⟨b, xr_setRS (by rw [a3]; omega), hT.fr F (by unfold oEq; omega), hok⟩
  · rw [xr_setRK e]
    have e0 := hs (3 * k) (by omega)
    have e1 := hs (3 * k + 1) (by omega)
    have e2 := hs (3 * k + 2) (by omega)
    rcases a6 k hk with q | ⟨b', q1, q2, q3⟩
    · exact Or.inl ⟨by rw [e0]; exact q.1, q.2⟩
    · refine Or.inr ⟨b', q1, ?_, by rw [e1]; exact q3⟩
      obtain ⟨c1, c2, c3, c4, c5, c6, c7, c8, c9⟩ := q2.fr F (by unfold oEq; omega)
      exact ⟨c1, c2, c3, (isN_c e0).mpr c4, (isN_c e1).mpr c5, (isN_c e2).mpr c6, by rw [aN_c e1]; exact c7, by rw [e0]; exact c8, by rw [e2]; exact c9⟩
/-- a rule's test, as a test of its own -/
theorem xPol.te {g : xG} {p n rr ww r k pl : Nat} {Z : xAd} {s s9 : Nat → Int32} (h : xPol g p Z s n rr ww) (hr : r < rr) (hk : k < (aT Z r).length) : xTe g ((aT Z r).getD k 0) (shUp s9 s r k pl) (3 * pl) := by
  have hT := (h.ru hr).2.2.2.2.2.2.2.2.2.1
  obtain ⟨b1, b2, b3, b4, b5⟩ := hT.2 k hk
  obtain ⟨w1, w2, w3⟩ := (h.wf.ru hr).2.2.2.2.2.2.2.2 k (by rw [← hT.1]; exact hk)
  have f : ∀ c, c < 3 → shUp s9 s r k pl (3 * pl + c) = s (23 + 20 * r + (8 + 3 * k + c)) := fun c hc => by
    unfold shUp
    rw [if_pos ⟨by omega, by omega⟩, show 3 * pl + c - 3 * pl = c from by omega]
  have f0 := f 0 (by omega)
  have f1 := f 1 (by omega)
  have f2 := f 2 (by omega)
  refine ⟨b1, b2, (h.rp hr).2.2.2 k hk, ?_, ?_, ?_, ?_, b4.trans f0.symm, b5.trans f2.symm⟩
  · unfold isN aN at w1 ⊢; rw [show 3 * pl = 3 * pl + 0 from rfl, f0]; exact w1
  · unfold isN aN at w2 ⊢; rw [f1]; exact w2
  · unfold isN aN at w3 ⊢; rw [f2]; exact w3
  · rw [b3]; unfold aN; rw [f1]
theorem SP_X1_lay_F {d : Nat} {g : xG} {x : Nat} {v a b : Int32} (hv : ¬ inR v (nI 0) (nI 5) = true) : XM M_X1_lay (d + 80) [.ref x, .int v, .int a, .int b] g (xThr (xsz g) (xExc g 23)) := by
  refine xm_of (by decide +kernel) (Nat.le_of_ble_eq_true rfl) ?_
  show XW _ _ 0 [(0, _), (1, _), (2, _), (3, _)] [] _ _
  refine xw_iload_n (pc := 0) dX1_lay_0 1 rfl ?_
  refine xw_iconst (v := nI 0) (pc := 1) dX1_lay_1 rfl ?_
  refine xw_iconst (v := nI 5) (pc := 2) dX1_lay_2 rfl ?_
  refine xw_callV (pc := 3) (xr_S (as := [_, _, _]) ok_X1_isIn rfl (by decide) q1180 q784 dX1_lay_3 rfl rfl (Nat.le_of_ble_eq_true rfl)) (SP_X1_isInF hv) ?_
  refine xw_callX (pc := 6) (xr_S (as := [_]) ok_X1_checkIndex rfl (by decide) q1252 q1066 dX1_lay_6 rfl rfl (Nat.le_of_ble_eq_true rfl)) (SP_X1_checkIndex_F) ?_
  exact xx_out0 rfl (by rw [xExc_tag]; decide) (by rw [xExc_tag]; decide) (by rw [xExc_own]; decide) ⟨rfl, rfl⟩

theorem SP_X1_lay_F2 {d : Nat} {g : xG} {x p lk fa ka la n rr ww : Nat} {Z : xAd} {S : xMS} (hM : xMn g x p lk fa ka la Z S n rr ww) {a v b : Int32} (hp : inR a (nI 0) (nI 5) = true) (hv : ¬ inR v (nI 0) (nI rr - nI 1) = true) : XM M_X1_lay (d + 80) [.ref x, .int a, .int v, .int b] g (xThr (xsz g) (xExc g 23)) := by
  have hlr := hM.P.lr
  have r16 := hM.P.wf.r16
  refine xm_of (by decide +kernel) (Nat.le_of_ble_eq_true rfl) ?_
  show XW _ _ 0 [(0, _), (1, _), (2, _), (3, _)] [] _ _
  refine xw_iload_n (pc := 0) dX1_lay_0 1 rfl ?_
  refine xw_iconst (v := nI 0) (pc := 1) dX1_lay_1 rfl ?_
  refine xw_iconst (v := nI 5) (pc := 2) dX1_lay_2 rfl ?_
  refine xw_callV (pc := 3) (xr_S (as := [_, _, _]) ok_X1_isIn rfl (by decide) q1180 q784 dX1_lay_3 rfl rfl (Nat.le_of_ble_eq_true rfl)) (SP_X1_isInT hp) ?_
  refine xw_callU (pc := 6) (xr_S (as := [_]) ok_X1_checkIndex rfl (by decide) q1252 q1066 dX1_lay_6 rfl rfl (Nat.le_of_ble_eq_true rfl)) (SP_X1_checkIndex_T) ?_
  refine xw_aload_n (pc := 9) dX1_lay_9 0 rfl ?_
  refine xw_aload_n (pc := 10) dX1_lay_10 0 rfl ?_
  refine xw_getS (b := p) (pc := 11) fd_X1_10 dX1_lay_11 (by first | assumption | (simp [-List.getD_eq_getElem?_getD, xE_setI, xsz_setI, xsl_setI, xtag_setI, xown_setI, xlen_setI, xE_setR, xsz_setR, xsl_setR, xtag_setR, xown_setR, xlen_setR, xE_setW, xsz_setW, xsl_setW, xtag_setW, xown_setW, xlen_setW, xi_setR, xi_setW, xr_setI, xr_setW, xww_setI, xww_setR, xi_setI, xr_setR, xww_setW, xE_new, xsz_new, xsl_new, hM.tx, hM.xp, hM.l3, xsub]; done) | (simp [-List.getD_eq_getElem?_getD, xE_setI, xsz_setI, xsl_setI, xtag_setI, xown_setI, xlen_setI, xE_setR, xsz_setR, xsl_setR, xtag_setR, xown_setR, xlen_setR, xE_setW, xsz_setW, xsl_setW, xtag_setW, xown_setW, xlen_setW, xi_setR, xi_setW, xr_setI, xr_setW, xww_setI, xww_setR, xi_setI, xr_setR, xww_setW, xE_new, xsz_new, xsl_new, hM.tx, hM.xp, hM.l3] <;> rfl)) (by simp [-List.getD_eq_getElem?_getD, xE_setI, xsz_setI, xsl_setI, xtag_setI, xown_setI, xlen_setI, xE_setR, xsz_setR, xsl_setR, xtag_setR, xown_setR, xlen_setR, xE_setW, xsz_setW, xsl_setW, xtag_setW, xown_setW, xlen_setW, xi_setR, xi_setW, xr_setI, xr_setW, xww_setI, xww_setR, xi_setI, xr_setR, xww_setW, xE_new, xsz_new, xsl_new, hM.tx, hM.xp, hM.l3]) ?_
  refine xw_iload_n (pc := 14) dX1_lay_14 2 rfl ?_
  refine xw_callX (pc := 15) (xr_V (as := [_]) ok_X2_rule rfl (by decide) q1338 q1339 q1340 (by rw [hM.P.tag]; rfl) (by rw [hM.P.tag]; rfl) dX1_lay_15 rfl rfl (Nat.le_of_ble_eq_true rfl)) (SP_X2_rule_F hM.P.pl v (by rw [hlr]; exact hv)) ?_
  exact xx_out0 rfl (by rw [xExc_tag]; decide) (by rw [xExc_tag]; decide) (by rw [xExc_own]; decide) ⟨rfl, rfl⟩

theorem SP_X1_lay_F3 {d : Nat} {g : xG} {x p lk fa ka la n rr ww : Nat} {Z : xAd} {S : xMS} (hM : xMn g x p lk fa ka la Z S n rr ww) {r : Nat} {a v : Int32} (hp : inR a (nI 0) (nI 5) = true) (hr : r < rr) (hv : ¬ inR v (nI 0) (nI (aT Z r).length - nI 1) = true) : XM M_X1_lay (d + 80) [.ref x, .int a, .int (nI r), .int v] g (xThr (xsz g) (xExc g 25)) := by
  have hlr := hM.P.lr
  have r16 := hM.P.wf.r16
  refine xm_of (by decide +kernel) (Nat.le_of_ble_eq_true rfl) ?_
  show XW _ _ 0 [(0, _), (1, _), (2, _), (3, _)] [] _ _
  refine xw_iload_n (pc := 0) dX1_lay_0 1 rfl ?_
  refine xw_iconst (v := nI 0) (pc := 1) dX1_lay_1 rfl ?_
  refine xw_iconst (v := nI 5) (pc := 2) dX1_lay_2 rfl ?_
  refine xw_callV (pc := 3) (xr_S (as := [_, _, _]) ok_X1_isIn rfl (by decide) q1180 q784 dX1_lay_3 rfl rfl (Nat.le_of_ble_eq_true rfl)) (SP_X1_isInT hp) ?_
  refine xw_callU (pc := 6) (xr_S (as := [_]) ok_X1_checkIndex rfl (by decide) q1252 q1066 dX1_lay_6 rfl rfl (Nat.le_of_ble_eq_true rfl)) (SP_X1_checkIndex_T) ?_
  refine xw_aload_n (pc := 9) dX1_lay_9 0 rfl ?_
  refine xw_aload_n (pc := 10) dX1_lay_10 0 rfl ?_
  refine xw_getS (b := p) (pc := 11) fd_X1_10 dX1_lay_11 (by first | assumption | (simp [-List.getD_eq_getElem?_getD, xE_setI, xsz_setI, xsl_setI, xtag_setI, xown_setI, xlen_setI, xE_setR, xsz_setR, xsl_setR, xtag_setR, xown_setR, xlen_setR, xE_setW, xsz_setW, xsl_setW, xtag_setW, xown_setW, xlen_setW, xi_setR, xi_setW, xr_setI, xr_setW, xww_setI, xww_setR, xi_setI, xr_setR, xww_setW, xE_new, xsz_new, xsl_new, hM.tx, hM.xp, hM.l3, xsub]; done) | (simp [-List.getD_eq_getElem?_getD, xE_setI, xsz_setI, xsl_setI, xtag_setI, xown_setI, xlen_setI, xE_setR, xsz_setR, xsl_setR, xtag_setR, xown_setR, xlen_setR, xE_setW, xsz_setW, xsl_setW, xtag_setW, xown_setW, xlen_setW, xi_setR, xi_setW, xr_setI, xr_setW, xww_setI, xww_setR, xi_setI, xr_setR, xww_setW, xE_new, xsz_new, xsl_new, hM.tx, hM.xp, hM.l3] <;> rfl)) (by simp [-List.getD_eq_getElem?_getD, xE_setI, xsz_setI, xsl_setI, xtag_setI, xown_setI, xlen_setI, xE_setR, xsz_setR, xsl_setR, xtag_setR, xown_setR, xlen_setR, xE_setW, xsz_setW, xsl_setW, xtag_setW, xown_setW, xlen_setW, xi_setR, xi_setW, xr_setI, xr_setW, xww_setI, xww_setR, xi_setI, xr_setR, xww_setW, xE_new, xsz_new, xsl_new, hM.tx, hM.xp, hM.l3]) ?_
  refine xw_iload_n (pc := 14) dX1_lay_14 2 rfl ?_
  refine xw_callV (pc := 15) (xr_V (as := [_]) ok_X2_rule rfl (by decide) q1338 q1339 q1340 (by rw [hM.P.tag]; rfl) (by rw [hM.P.tag]; rfl) dX1_lay_15 rfl rfl (Nat.le_of_ble_eq_true rfl)) (SP_X2_rule hM.P.pl r (by omega) (hM.P.ru hr).1) ?_
  refine xw_iload_n (pc := 18) dX1_lay_18 3 rfl ?_
  refine xw_callX (pc := 19) (xr_V (as := [_, _]) ok_X1_testAt rfl (by decide) q1491 q1493 qs25 (by rw [hM.tx]; rfl) (by rw [hM.tx]; rfl) dX1_lay_19 rfl rfl (Nat.le_of_ble_eq_true rfl)) (SP_X1_testAt_F hM.P hr hv) ?_
  exact xx_out0 rfl (by rw [xExc_tag]; decide) (by rw [xExc_tag]; decide) (by rw [xExc_own]; decide) ⟨rfl, rfl⟩

theorem SP_X1_lay {d : Nat} {g : xG} {x p lk fa ka la n rr ww : Nat} {Z : xAd} {S : xMS} (hM : xMn g x p lk fa ka la Z S n rr ww) {sh Q sg : Nat} {s9 : Nat → Int32} (h6 : xr g x 6 = some sh) (hS : xShQ g sh Q sg s9) {pl r k : Nat} (hpl : pl < 6) (hr : r < rr) (hk : k < (aT Z r).length) (hok : sg = 4 ∨ S 1 (23 + 20 * r + (8 + 3 * k + 1)) = nI sg) : XM M_X1_lay (d + 80) [.ref x, .int (nI pl), .int (nI r), .int (nI k)] g (xVal (.int (nI (cntB (osQ (shUp s9 (S 1) r k pl)) 6))) (fun g' => xShQ g' sh Q sg (shUp s9 (S 1) r k pl) ∧ xFr (fun o => o = 5 ∨ o = 8) 10 g g')) := by
  have hlr := hM.P.lr
  have r16 := hM.P.wf.r16
  have hp : inR (nI pl) (nI 0) (nI 5) = true := inR_nat' (by decide) (by omega)
  have hT := (hM.P.ru hr).2.2.2.2.2.2.2.2.2.1
  obtain ⟨b1, b2, b3, b4, b5⟩ := hT.2 k hk
  obtain ⟨w1, w2, w3⟩ := (hM.P.wf.ru hr).2.2.2.2.2.2.2.2 k (by rw [← hT.1]; exact hk)
  have hlb : ((aT Z r).getD k 0) < xsz g := xlt (by omega)
  have hlx : x < xsz g := xlt (by rw [hM.tx]; decide)
  have FN : xFr (oEq 5) 2 g (xNew g (xBlank 8 5 1) 1) := (xFr.rf (n := 0)).nw
  have FNo : xFr oNo 2 g (xNew g (xBlank 8 5 1) 1) := (xFr.rf (n := 0)).nw
  have hSN := hS.fr FNo (fun z => z) (fun z => z)
  have txN : xtag (xNew g (xBlank 8 5 1) 1) x = 1 := (FNo.tag hlx).trans hM.tx
  have h6N : xr (xNew g (xBlank 8 5 1) 1) x 6 = some sh := (FNo.r' hlx (fun z => z)).trans h6
  have tbN : xtag (xNew g (xBlank 8 5 1) 1) ((aT Z r).getD k 0) = xtag g ((aT Z r).getD k 0) := FNo.tag hlb
  have okt : sg = 4 ∨ xtag (xNew g (xBlank 8 5 1) 1) ((aT Z r).getD k 0) = 10 + sg := by
    rcases hok with e | e
    · exact Or.inl e
    · right
      rw [w2.1] at e
      have := (nI_eq (a := aN (S 1) (23 + 20 * r + (8 + 3 * k + 1))) (b := sg) (by have := w2.2; omega) (by have := hS.2.1; omega)).mp e
      rw [tbN]; omega
  have hsh : sh < xsz g := xlt (by rw [hS.2.2.1]; omega)
  have FL : xFr (oEq 8) 0 (xNew g (xBlank 8 5 1) 1) (xsetR (xNew g (xBlank 8 5 1) 1) sh pl (some ((aT Z r).getD k 0))) := xFr.rf.sr (Or.inr hSN.1)
  have wL := (xWy_new (g := g)).fr FL (by unfold oEq; omega)
  have hSL : xShQ (xsetR (xNew g (xBlank 8 5 1) 1) sh pl (some ((aT Z r).getD k 0))) sh Q sg (shUp s9 (S 1) r k pl) := hSN.put hpl ((hM.P.te hr hk).fr FNo (fun z => z)) (by
    rcases hok with e | e
    · exact Or.inl e
    · right
      unfold shUp
      rw [if_pos ⟨by omega, by omega⟩, show 3 * pl + 1 - 3 * pl = 1 from by omega]
      exact e) (fun j hj => by unfold shUp; rw [if_neg (by omega)])
  have tbL : xtag (xsetR (xNew g (xBlank 8 5 1) 1) sh pl (some ((aT Z r).getD k 0))) ((aT Z r).getD k 0) = xtag g ((aT Z r).getD k 0) := (xtag_setR).trans tbN
  refine xm_of (by decide +kernel) (Nat.le_of_ble_eq_true rfl) ?_
  show XW _ _ 0 [(0, _), (1, _), (2, _), (3, _)] [] _ _
  refine xw_iload_n (pc := 0) dX1_lay_0 1 rfl ?_
  refine xw_iconst (v := nI 0) (pc := 1) dX1_lay_1 rfl ?_
  refine xw_iconst (v := nI 5) (pc := 2) dX1_lay_2 rfl ?_
  refine xw_callV (pc := 3) (xr_S (as := [_, _, _]) ok_X1_isIn rfl (by decide) q1180 q784 dX1_lay_3 rfl rfl (Nat.le_of_ble_eq_true rfl)) (SP_X1_isInT hp) ?_
  refine xw_callU (pc := 6) (xr_S (as := [_]) ok_X1_checkIndex rfl (by decide) q1252 q1066 dX1_lay_6 rfl rfl (Nat.le_of_ble_eq_true rfl)) (SP_X1_checkIndex_T) ?_
  refine xw_aload_n (pc := 9) dX1_lay_9 0 rfl ?_
  refine xw_aload_n (pc := 10) dX1_lay_10 0 rfl ?_
  refine xw_getS (b := p) (pc := 11) fd_X1_10 dX1_lay_11 (by first | assumption | (simp [-List.getD_eq_getElem?_getD, xE_setI, xsz_setI, xsl_setI, xtag_setI, xown_setI, xlen_setI, xE_setR, xsz_setR, xsl_setR, xtag_setR, xown_setR, xlen_setR, xE_setW, xsz_setW, xsl_setW, xtag_setW, xown_setW, xlen_setW, xi_setR, xi_setW, xr_setI, xr_setW, xww_setI, xww_setR, xi_setI, xr_setR, xww_setW, xE_new, xsz_new, xsl_new, hM.tx, hM.xp, hM.l3, xsub]; done) | (simp [-List.getD_eq_getElem?_getD, xE_setI, xsz_setI, xsl_setI, xtag_setI, xown_setI, xlen_setI, xE_setR, xsz_setR, xsl_setR, xtag_setR, xown_setR, xlen_setR, xE_setW, xsz_setW, xsl_setW, xtag_setW, xown_setW, xlen_setW, xi_setR, xi_setW, xr_setI, xr_setW, xww_setI, xww_setR, xi_setI, xr_setR, xww_setW, xE_new, xsz_new, xsl_new, hM.tx, hM.xp, hM.l3] <;> rfl)) (by simp [-List.getD_eq_getElem?_getD, xE_setI, xsz_setI, xsl_setI, xtag_setI, xown_setI, xlen_setI, xE_setR, xsz_setR, xsl_setR, xtag_setR, xown_setR, xlen_setR, xE_setW, xsz_setW, xsl_setW, xtag_setW, xown_setW, xlen_setW, xi_setR, xi_setW, xr_setI, xr_setW, xww_setI, xww_setR, xi_setI, xr_setR, xww_setW, xE_new, xsz_new, xsl_new, hM.tx, hM.xp, hM.l3]) ?_
  refine xw_iload_n (pc := 14) dX1_lay_14 2 rfl ?_
  refine xw_callV (pc := 15) (xr_V (as := [_]) ok_X2_rule rfl (by decide) q1338 q1339 q1340 (by rw [hM.P.tag]; rfl) (by rw [hM.P.tag]; rfl) dX1_lay_15 rfl rfl (Nat.le_of_ble_eq_true rfl)) (SP_X2_rule hM.P.pl r (by omega) (hM.P.ru hr).1) ?_
  refine xw_iload_n (pc := 18) dX1_lay_18 3 rfl ?_
  refine xw_callV (pc := 19) (xr_V (as := [_, _]) ok_X1_testAt rfl (by decide) q1491 q1493 qs25 (by first | (rw [tx9]; rfl) | (rw [hM.tx]; rfl)) (by first | (rw [tx9]; rfl) | (rw [hM.tx]; rfl)) dX1_lay_19 rfl rfl (Nat.le_of_ble_eq_true rfl)) (SP_X1_testAt hM.P hr hk) ?_
  refine xw_astore (l' := [(4, _), (0, _), (1, _), (2, _), (3, _)]) (pc := 22) dX1_lay_22 (by decide) rfl ?_
  refine xw_aload_n (pc := 24) dX1_lay_24 1 rfl ?_
  refine xw_new (t := 8) (pc := 25) 5 dX1_lay_25 rfl (by decide) (by first | decide | assumption | omega) q1268 q1269 q127 ?_
  refine xw_at (a := (xsz g)) (by rfl) ?_
  refine xw_dup (pc := 28) dX1_lay_28 rfl ?_
  refine xw_callU (pc := 29) (xr_IN (as := []) ok_X10_init rfl (by decide) q1270 q1271 rfl rfl dX1_lay_29 rfl rfl (Nat.le_of_ble_eq_true rfl)) (SP_X10_init) ?_
  refine xw_aload_n (pc := 32) dX1_lay_32 1 rfl ?_
  refine xw_iload_n (pc := 33) dX1_lay_33 2 rfl ?_
  refine xw_aload (pc := 34) dX1_lay_34 0 rfl ?_
  refine xw_callV (pc := 36) (xr_VX (as := [_, _]) ok_X1_lays rfl (by decide) q1721 q1723 qs30 (by rw [txN]; rfl) (by rw [txN]; rfl) dX1_lay_36 rfl rfl (Nat.le_of_ble_eq_true rfl)) (SP_X1_lays txN h6N hSN (by rw [tbN]; omega) hpl okt) ?_
  refine xw_if_ne (pc := 39) 46 dX1_lay_39 rfl (fun _ => ?_) (fun hb => absurd hb (by decide))
  refine xw_iconst (v := nI 0) (pc := 46) dX1_lay_46 rfl ?_
  refine xw_bipush (v := nI 9) (pc := 47) dX1_lay_47 (by decide +kernel) ?_
  refine xw_aload (pc := 49) dX1_lay_49 0 rfl ?_
  refine xw_callV (pc := 51) (xr_S (as := [_]) ok_X1_signOf rfl (by decide) q1501 q1502 dX1_lay_51 rfl rfl (Nat.le_of_ble_eq_true rfl)) (SP_X1_signOf (by rw [tbL]; exact b1) (by rw [tbL]; exact b2)) ?_
  refine xw_callF (pc := 54) (xr_V (as := [_, _, _]) ok_X10_asks rfl (by decide) q1447 q1284 q1285 (by rw [wL.1]; rfl) (by rw [wL.1]; rfl) dX1_lay_54 rfl rfl (Nat.le_of_ble_eq_true rfl)) (SP_X10_asks (b := false) (re := 9) (c := 0) wL (by first | rfl | exact nI1 | exact nI0) (by decide)) ?_
  intro g54 hc54 hm54
  have F9 : xFr (fun o => o = 5 ∨ o = 8) 10 g g54 := (((FN.sub (m := 2) (O' := fun o => o = 5 ∨ o = 8) (fun o h => Or.inl h) (Nat.le_refl _)).tr (FL.sub (m := 0) (fun o h => Or.inr h) (Nat.le_refl _))).tr (hc54.2.sub (m := 3) (fun o h => Or.inl h) (Nat.le_refl _))).sub (fun _ h => h) (by omega)
  have hS9 := hSL.fr hc54.2 (by unfold oEq; omega) (by unfold oEq; omega)
  have tx9 : xtag g54 x = 1 := (F9.tag hlx).trans hM.tx
  have h69 : xr g54 x 6 = some sh := by rw [F9.r' hlx (by rw [hM.ox]; omega)]; exact h6
  refine xw_callU (pc := 57) (xr_V (as := [_]) ok_X1_refuse rfl (by decide) q1302 q1304 qs22 (by first | (rw [tx9]; rfl) | (rw [hM.tx]; rfl)) (by first | (rw [tx9]; rfl) | (rw [hM.tx]; rfl)) dX1_lay_57 rfl rfl (Nat.le_of_ble_eq_true rfl)) (SP_X1_refuse_N hc54.1 (by unfold wAsk; simp)) ?_
  refine xw_aload_n (pc := 60) dX1_lay_60 1 rfl ?_
  refine xw_callV (pc := 61) (xr_V (as := []) ok_X1_onSheet rfl (by decide) q1703 q1705 qs29 (by first | (rw [tx9]; rfl) | (rw [hM.tx]; rfl)) (by first | (rw [tx9]; rfl) | (rw [hM.tx]; rfl)) dX1_lay_61 rfl rfl (Nat.le_of_ble_eq_true rfl)) (SP_X1_onSheet tx9 h69 hS9) ?_
  refine xw_iret (pc := 64) .int dX1_lay_64 rfl ?_ 
  exact ⟨rfl, hS9, F9⟩

theorem SP_X1_lay_R {d : Nat} {g : xG} {x p lk fa ka la n rr ww : Nat} {Z : xAd} {S : xMS} (hM : xMn g x p lk fa ka la Z S n rr ww) {sh Q sg : Nat} {s9 : Nat → Int32} (h6 : xr g x 6 = some sh) (hS : xShQ g sh Q sg s9) {pl r k : Nat} (hpl : pl < 6) (hr : r < rr) (hk : k < (aT Z r).length) (hno : sg ≠ 4 ∧ S 1 (23 + 20 * r + (8 + 3 * k + 1)) ≠ nI sg) : XM M_X1_lay (d + 80) [.ref x, .int (nI pl), .int (nI r), .int (nI k)] g (xRef g x (9, S 1 (23 + 20 * r + (8 + 3 * k + 1)))) := by
  have hlr := hM.P.lr
  have r16 := hM.P.wf.r16
  have hp : inR (nI pl) (nI 0) (nI 5) = true := inR_nat' (by decide) (by omega)
  have hT := (hM.P.ru hr).2.2.2.2.2.2.2.2.2.1
  obtain ⟨b1, b2, b3, b4, b5⟩ := hT.2 k hk
  obtain ⟨w1, w2, w3⟩ := (hM.P.wf.ru hr).2.2.2.2.2.2.2.2 k (by rw [← hT.1]; exact hk)
  have hlb : ((aT Z r).getD k 0) < xsz g := xlt (by omega)
  have hlx : x < xsz g := xlt (by rw [hM.tx]; decide)
  have FN : xFr (oEq 5) 2 g (xNew g (xBlank 8 5 1) 1) := (xFr.rf (n := 0)).nw
  have FNo : xFr oNo 2 g (xNew g (xBlank 8 5 1) 1) := (xFr.rf (n := 0)).nw
  have hSN := hS.fr FNo (fun z => z) (fun z => z)
  have txN : xtag (xNew g (xBlank 8 5 1) 1) x = 1 := (FNo.tag hlx).trans hM.tx
  have h6N : xr (xNew g (xBlank 8 5 1) 1) x 6 = some sh := (FNo.r' hlx (fun z => z)).trans h6
  have tbN : xtag (xNew g (xBlank 8 5 1) 1) ((aT Z r).getD k 0) = xtag g ((aT Z r).getD k 0) := FNo.tag hlb
  have okt : sg ≠ 4 ∧ xtag (xNew g (xBlank 8 5 1) 1) ((aT Z r).getD k 0) ≠ 10 + sg := ⟨hno.1, fun e => hno.2 (by rw [w2.1]; congr 1; rw [tbN] at e; omega)⟩
  have FL : xFr (oEq 5) 53 (xNew g (xBlank 8 5 1) 1) (xAse (xNew g (xBlank 8 5 1) 1)) := (xAse.fr (xFr.rf (n := 0))).sub (fun _ h => h) (by decide)
  have wL : xWy (xAse (xNew g (xBlank 8 5 1) 1)) (xsz g) (0, nI 0) := (xWy_new (g := g)).fr (O := oNo) (xAse.fr (xFr.rf (n := 0))) (fun z => z)
  have tbL : xtag (xAse (xNew g (xBlank 8 5 1) 1)) ((aT Z r).getD k 0) = xtag g ((aT Z r).getD k 0) := (FL.tag (FN.lt hlb)).trans tbN
  have txL : xtag (xAse (xNew g (xBlank 8 5 1) 1)) x = 1 := (FL.tag (FN.lt hlx)).trans txN
  refine xm_of (by decide +kernel) (Nat.le_of_ble_eq_true rfl) ?_
  show XW _ _ 0 [(0, _), (1, _), (2, _), (3, _)] [] _ _
  refine xw_iload_n (pc := 0) dX1_lay_0 1 rfl ?_
  refine xw_iconst (v := nI 0) (pc := 1) dX1_lay_1 rfl ?_
  refine xw_iconst (v := nI 5) (pc := 2) dX1_lay_2 rfl ?_
  refine xw_callV (pc := 3) (xr_S (as := [_, _, _]) ok_X1_isIn rfl (by decide) q1180 q784 dX1_lay_3 rfl rfl (Nat.le_of_ble_eq_true rfl)) (SP_X1_isInT hp) ?_
  refine xw_callU (pc := 6) (xr_S (as := [_]) ok_X1_checkIndex rfl (by decide) q1252 q1066 dX1_lay_6 rfl rfl (Nat.le_of_ble_eq_true rfl)) (SP_X1_checkIndex_T) ?_
  refine xw_aload_n (pc := 9) dX1_lay_9 0 rfl ?_
  refine xw_aload_n (pc := 10) dX1_lay_10 0 rfl ?_
  refine xw_getS (b := p) (pc := 11) fd_X1_10 dX1_lay_11 (by first | assumption | (simp [-List.getD_eq_getElem?_getD, xE_setI, xsz_setI, xsl_setI, xtag_setI, xown_setI, xlen_setI, xE_setR, xsz_setR, xsl_setR, xtag_setR, xown_setR, xlen_setR, xE_setW, xsz_setW, xsl_setW, xtag_setW, xown_setW, xlen_setW, xi_setR, xi_setW, xr_setI, xr_setW, xww_setI, xww_setR, xi_setI, xr_setR, xww_setW, xE_new, xsz_new, xsl_new, hM.tx, hM.xp, hM.l3, xsub]; done) | (simp [-List.getD_eq_getElem?_getD, xE_setI, xsz_setI, xsl_setI, xtag_setI, xown_setI, xlen_setI, xE_setR, xsz_setR, xsl_setR, xtag_setR, xown_setR, xlen_setR, xE_setW, xsz_setW, xsl_setW, xtag_setW, xown_setW, xlen_setW, xi_setR, xi_setW, xr_setI, xr_setW, xww_setI, xww_setR, xi_setI, xr_setR, xww_setW, xE_new, xsz_new, xsl_new, hM.tx, hM.xp, hM.l3] <;> rfl)) (by simp [-List.getD_eq_getElem?_getD, xE_setI, xsz_setI, xsl_setI, xtag_setI, xown_setI, xlen_setI, xE_setR, xsz_setR, xsl_setR, xtag_setR, xown_setR, xlen_setR, xE_setW, xsz_setW, xsl_setW, xtag_setW, xown_setW, xlen_setW, xi_setR, xi_setW, xr_setI, xr_setW, xww_setI, xww_setR, xi_setI, xr_setR, xww_setW, xE_new, xsz_new, xsl_new, hM.tx, hM.xp, hM.l3]) ?_
  refine xw_iload_n (pc := 14) dX1_lay_14 2 rfl ?_
  refine xw_callV (pc := 15) (xr_V (as := [_]) ok_X2_rule rfl (by decide) q1338 q1339 q1340 (by rw [hM.P.tag]; rfl) (by rw [hM.P.tag]; rfl) dX1_lay_15 rfl rfl (Nat.le_of_ble_eq_true rfl)) (SP_X2_rule hM.P.pl r (by omega) (hM.P.ru hr).1) ?_
  refine xw_iload_n (pc := 18) dX1_lay_18 3 rfl ?_
  refine xw_callV (pc := 19) (xr_V (as := [_, _]) ok_X1_testAt rfl (by decide) q1491 q1493 qs25 (by first | (rw [tx9]; rfl) | (rw [hM.tx]; rfl)) (by first | (rw [tx9]; rfl) | (rw [hM.tx]; rfl)) dX1_lay_19 rfl rfl (Nat.le_of_ble_eq_true rfl)) (SP_X1_testAt hM.P hr hk) ?_
  refine xw_astore (l' := [(4, _), (0, _), (1, _), (2, _), (3, _)]) (pc := 22) dX1_lay_22 (by decide) rfl ?_
  refine xw_aload_n (pc := 24) dX1_lay_24 1 rfl ?_
  refine xw_new (t := 8) (pc := 25) 5 dX1_lay_25 rfl (by decide) (by first | decide | assumption | omega) q1268 q1269 q127 ?_
  refine xw_at (a := (xsz g)) (by rfl) ?_
  refine xw_dup (pc := 28) dX1_lay_28 rfl ?_
  refine xw_callU (pc := 29) (xr_IN (as := []) ok_X10_init rfl (by decide) q1270 q1271 rfl rfl dX1_lay_29 rfl rfl (Nat.le_of_ble_eq_true rfl)) (SP_X10_init) ?_
  refine xw_aload_n (pc := 32) dX1_lay_32 1 rfl ?_
  refine xw_iload_n (pc := 33) dX1_lay_33 2 rfl ?_
  refine xw_aload (pc := 34) dX1_lay_34 0 rfl ?_
  refine xw_callV (pc := 36) (xr_VX (as := [_, _]) ok_X1_lays rfl (by decide) q1721 q1723 qs30 (by rw [txN]; rfl) (by rw [txN]; rfl) dX1_lay_36 rfl rfl (Nat.le_of_ble_eq_true rfl)) (SP_X1_lays_F (d := d + 72) txN h6N hSN (by rw [tbN]; omega) hpl okt) ?_
  refine xw_if_ne (pc := 39) 46 dX1_lay_39 rfl (fun hb => absurd hb (by decide)) (fun _ => ?_)
  refine xw_iconst (v := nI 1) (pc := 42) dX1_lay_42 rfl ?_
  refine xw_goto (pc := 43) 47 dX1_lay_43 rfl ?_
  refine xw_bipush (v := nI 9) (pc := 47) dX1_lay_47 (by decide +kernel) ?_
  refine xw_aload (pc := 49) dX1_lay_49 0 rfl ?_
  refine xw_callV (pc := 51) (xr_S (as := [_]) ok_X1_signOf rfl (by decide) q1501 q1502 dX1_lay_51 rfl rfl (Nat.le_of_ble_eq_true rfl)) (SP_X1_signOf (by rw [tbL]; exact b1) (by rw [tbL]; exact b2)) ?_
  refine xw_callF (pc := 54) (xr_V (as := [_, _, _]) ok_X10_asks rfl (by decide) q1447 q1284 q1285 (by rw [wL.1]; rfl) (by rw [wL.1]; rfl) dX1_lay_54 rfl rfl (Nat.le_of_ble_eq_true rfl)) (SP_X10_asks (b := true) (re := 9) (c := 1) wL (by first | rfl | exact nI1 | exact nI0) (by decide)) ?_
  intro g54 hc54 hm54
  have F9 : xFr (oEq 5) 58 g g54 := ((FN.tr FL).tr hc54.2).sub (fun _ h => h) (by omega)
  have tx9 : xtag g54 x = 1 := (F9.tag hlx).trans hM.tx
  have hw9 : xWy g54 (xsz g) (9, S 1 (23 + 20 * r + (8 + 3 * k + 1))) := hc54.1.congr (by
    unfold wAsk
    rw [if_pos ⟨rfl, rfl⟩]
    refine ⟨rfl, fun _ => ?_⟩
    show nI (xtag (xAse (xNew g (xBlank 8 5 1) 1)) ((aT Z r).getD k 0) - 10) = _
    rw [tbL, b3]; exact w2.1.symm)
  refine xw_callY (pc := 57) (xr_V (as := [_]) ok_X1_refuse rfl (by decide) q1302 q1304 qs22 (by first | (rw [tx9]; rfl) | (rw [hM.tx]; rfl)) (by first | (rw [tx9]; rfl) | (rw [hM.tx]; rfl)) dX1_lay_57 rfl rfl (Nat.le_of_ble_eq_true rfl)) (SP_X1_refuse_Y hw9 (by show (9 : Nat) ≠ 0; decide) hM.tx hM.ox F9 (by decide)) xRef_up rfl ?_
  exact fun _ _ h => h

