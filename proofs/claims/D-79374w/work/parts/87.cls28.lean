/-! CLASS 28: asked of works, rules, tests -/
set_option maxRecDepth 100000
theorem xMn.fr6 {g g' : xG} {x p lk fa ka la n rr ww N : Nat} {Z : xAd} {S : xMS} (h : xMn g x p lk fa ka la Z S n rr ww) (F : xFr (oEq 6) N g g') (hB : xLb g' x lk fa ka la) : xMn g' x p lk fa ka la Z S n rr ww := by
  have hx : x < xsz g := xlt (by rw [h.tx]; decide)
  have nx : ¬ oEq 6 (xown g x) := by rw [h.ox]; unfold oEq; omega
  obtain ⟨e1, e2, e3⟩ := h.em
  have he : (xE g).2.2.1 4 < xsz g := xlt (by rw [e1]; decide)
  exact ⟨⟨(F.tag hx).trans h.tx, (F.own hx).trans h.ox, (F.r' hx nx).trans h.xp⟩, h.P.fr F (fun o h1 h2 => by have := h.P.p0; unfold oP at h1; unfold oEq at h2; omega) (by unfold oEq; omega), (F.r' hx nx).trans h.l3, hB, h.cn.fr F (by unfold oEq; omega), ⟨by rw [F.e, F.tag he]; exact e1, by rw [F.e, F.len he]; exact e2, by rw [F.e, F.own he]; exact e3⟩⟩
theorem SP_X1_outcomeOf {d : Nat} {g : xG} {x p lk fa ka la n rr ww : Nat} {Z : xAd} {S : xMS} (hM : xMn g x p lk fa ka la Z S n rr ww) {w : Nat} {wo : Int32} (hw : w < ww) : XM M_X1_outcomeOf (d + 71) [.ref x, .ref ((aW Z).getD w 0), .int wo] g (xVal (xref (effO g (wOut (S 1) wo rr w))) (fun g' => xLb g' x lk fa ka la ∧ xFr (oEq 6) 0 g g')) := by
  refine xm_of (by decide +kernel) (Nat.le_of_ble_eq_true rfl) ?_
  show XW _ _ 0 [(0, _), (1, _), (2, _)] [] _ _
  refine xw_aload_n (pc := 0) dX1_outcomeOf_0 0 rfl ?_
  refine xw_getS (b := lk) (pc := 1) fd_X1_28 dX1_outcomeOf_1 (by first | assumption | (simp [-List.getD_eq_getElem?_getD, xE_setI, xsz_setI, xsl_setI, xtag_setI, xown_setI, xlen_setI, xE_setR, xsz_setR, xsl_setR, xtag_setR, xown_setR, xlen_setR, xE_setW, xsz_setW, xsl_setW, xtag_setW, xown_setW, xlen_setW, xi_setR, xi_setW, xr_setI, xr_setW, xww_setI, xww_setR, xi_setI, xr_setR, xww_setW, xE_new, xsz_new, xsl_new, hM.tx, hM.xp, hM.l3, xsub]; done) | (simp [-List.getD_eq_getElem?_getD, xE_setI, xsz_setI, xsl_setI, xtag_setI, xown_setI, xlen_setI, xE_setR, xsz_setR, xsl_setR, xtag_setR, xown_setR, xlen_setR, xE_setW, xsz_setW, xsl_setW, xtag_setW, xown_setW, xlen_setW, xi_setR, xi_setW, xr_setI, xr_setW, xww_setI, xww_setR, xi_setI, xr_setR, xww_setW, xE_new, xsz_new, xsl_new, hM.tx, hM.xp, hM.l3] <;> rfl)) (by simp [-List.getD_eq_getElem?_getD, xE_setI, xsz_setI, xsl_setI, xtag_setI, xown_setI, xlen_setI, xE_setR, xsz_setR, xsl_setR, xtag_setR, xown_setR, xlen_setR, xE_setW, xsz_setW, xsl_setW, xtag_setW, xown_setW, xlen_setW, xi_setR, xi_setW, xr_setI, xr_setW, xww_setI, xww_setR, xi_setI, xr_setR, xww_setW, xE_new, xsz_new, xsl_new, hM.tx, hM.xp, hM.l3]) ?_
  refine xw_aload_n (pc := 4) dX1_outcomeOf_4 1 rfl ?_
  refine xw_iload_n (pc := 5) dX1_outcomeOf_5 2 rfl ?_
  refine xw_callF (pc := 6) (xr_V (as := [_, _]) ok_X5_at rfl (by decide) q732 q733 q734 (by first | (rw [hc6.1.lt]; rfl) | (rw [hM.B.lt]; rfl)) (by first | (rw [hc6.1.lt]; rfl) | (rw [hM.B.lt]; rfl)) dX1_outcomeOf_6 rfl rfl (Nat.le_of_ble_eq_true rfl)) (SP_X5_at hM.tx hM.ox hM.xp hM.P hw hM.B) ?_
  intro g6 hc6 hm6
  refine xw_callF (pc := 9) (xr_V (as := []) ok_X5_outcome rfl (by decide) q746 q747 q748 (by first | (rw [hc6.1.lt]; rfl) | (rw [hM.B.lt]; rfl)) (by first | (rw [hc6.1.lt]; rfl) | (rw [hM.B.lt]; rfl)) dX1_outcomeOf_9 rfl rfl (Nat.le_of_ble_eq_true rfl)) (SP_X5_outcome (d := d + 23) hc6.1) ?_
  intro g9 hc9 hm9
  refine xw_aret (pc := 12) (.object "PolicyNotation$Effect") dX1_outcomeOf_12 rfl ?_
  exact ⟨by rw [show effO g6 _ = effO g _ from effO_fr hc6.2 _]; rfl, hc9.1.lc.B, (hc6.2.tr (hc9.2.fr hc6.1.kao6)).sub (fun _ h => h) (Nat.le_refl _)⟩

theorem SP_X1_isRight_2 {d : Nat} {g : xG} {x p lk fa ka la n rr ww : Nat} {Z : xAd} {S : xMS} (hM : xMn g x p lk fa ka la Z S n rr ww) {w : Nat} {wo : Int32} (hw : w < ww) : XM M_X1_isRight_2 (d + 72) [.ref x, .ref ((aW Z).getD w 0), .int wo] g (xVal (.int (bI (wRt (S 1) wo rr w))) (fun g' => xLb g' x lk fa ka la ∧ xFr (oEq 6) 0 g g')) := by
  have hwk := hM.P.wk hw
  obtain ⟨w1, w2, w3, w4⟩ := hM.P.wf.wk hw
  have tw := hwk.1
  have ew := hwk.2.2.2.2.2
  have hlw : ((aW Z).getD w 0) < xsz g := xlt (by rw [tw]; decide)
  have now : ¬ oEq 6 (xown g ((aW Z).getD w 0)) := by rw [hwk.2.1]; unfold oEq; omega
  refine xm_of (by decide +kernel) (Nat.le_of_ble_eq_true rfl) ?_
  show XW _ _ 0 [(0, _), (1, _), (2, _)] [] _ _
  refine xw_aload_n (pc := 0) dX1_isRight_2_0 0 rfl ?_
  refine xw_aload_n (pc := 1) dX1_isRight_2_1 1 rfl ?_
  refine xw_iload_n (pc := 2) dX1_isRight_2_2 2 rfl ?_
  refine xw_callF (pc := 3) (xr_V (as := [_, _]) ok_X1_outcomeOf rfl (by decide) q728 q730 qs6 (by rw [hM.tx]; rfl) (by rw [hM.tx]; rfl) dX1_isRight_2_3 rfl rfl (Nat.le_of_ble_eq_true rfl)) (SP_X1_outcomeOf hM hw) ?_
  intro g3 hc3 hm3
  have tw3 : xtag g3 ((aW Z).getD w 0) = 14 := (hc3.2.tag hlw).trans tw
  have ew3 : xr g3 ((aW Z).getD w 0) 3 = effO g (S 1 (343 + 4 * w + 3)) := (hc3.2.r' hlw now).trans ew
  refine xw_aload_n (pc := 6) dX1_isRight_2_6 1 rfl ?_
  refine xw_getR (pc := 7) fd_X1_393 dX1_isRight_2_7 (by first | assumption | (simp [-List.getD_eq_getElem?_getD, xE_setI, xsz_setI, xsl_setI, xtag_setI, xown_setI, xlen_setI, xE_setR, xsz_setR, xsl_setR, xtag_setR, xown_setR, xlen_setR, xE_setW, xsz_setW, xsl_setW, xtag_setW, xown_setW, xlen_setW, xi_setR, xi_setW, xr_setI, xr_setW, xww_setI, xww_setR, xi_setI, xr_setR, xww_setW, xE_new, xsz_new, xsl_new, hM.tx, hM.xp, hM.l3, tw3, xsub]; done) | (simp [-List.getD_eq_getElem?_getD, xE_setI, xsz_setI, xsl_setI, xtag_setI, xown_setI, xlen_setI, xE_setR, xsz_setR, xsl_setR, xtag_setR, xown_setR, xlen_setR, xE_setW, xsz_setW, xsl_setW, xtag_setW, xown_setW, xlen_setW, xi_setR, xi_setW, xr_setI, xr_setW, xww_setI, xww_setR, xi_setI, xr_setR, xww_setW, xE_new, xsz_new, xsl_new, hM.tx, hM.xp, hM.l3, tw3] <;> rfl)) ?_
  rw [ew3]
  refine xw_acmp_ne (ry := _) (rx := (effO g (wOut (S 1) wo rr w))) (pc := 10) 17 dX1_isRight_2_10 rfl (fun hb10 => ?_) (fun hb10 => ?_)
  · refine xw_iconst (v := nI 0) (pc := 17) dX1_isRight_2_17 rfl ?_
    refine xw_iret (pc := 18) .boolean dX1_isRight_2_18 rfl ?_ 
    refine ⟨congrArg (fun z => Sum.inl (some (Value.int z))) ?_, hc3⟩
    unfold wRt
    have hex : S 1 (343 + 4 * w + 3) = -1 ∨ ∃ e, e < 3 ∧ S 1 (343 + 4 * w + 3) = nI e := Or.inr ⟨_, w4.2, w4.1⟩
    have hou := ocm_e (H := hld (isPa (S 1)) rr (cov (S 1) wo (aN (S 1) (343 + 4 * w)) (S 1 (343 + 4 * w + 1)) (S 1 (343 + 4 * w + 2)))) hM.P.wf w1.2
    first
    | (rw [decide_eq_true (show wOut (S 1) wo rr w = S 1 (343 + 4 * w + 3) from effO_inj hM.cn (Or.inr hou) hex hb10)]; rfl)
    | (rw [decide_eq_false (fun e => hb10 (by rw [e]))]; rfl)
  · refine xw_iconst (v := nI 1) (pc := 13) dX1_isRight_2_13 rfl ?_
    refine xw_goto (pc := 14) 18 dX1_isRight_2_14 rfl ?_
    refine xw_iret (pc := 18) .boolean dX1_isRight_2_18 rfl ?_ 
    refine ⟨congrArg (fun z => Sum.inl (some (Value.int z))) ?_, hc3⟩
    unfold wRt
    have hex : S 1 (343 + 4 * w + 3) = -1 ∨ ∃ e, e < 3 ∧ S 1 (343 + 4 * w + 3) = nI e := Or.inr ⟨_, w4.2, w4.1⟩
    have hou := ocm_e (H := hld (isPa (S 1)) rr (cov (S 1) wo (aN (S 1) (343 + 4 * w)) (S 1 (343 + 4 * w + 1)) (S 1 (343 + 4 * w + 2)))) hM.P.wf w1.2
    first
    | (rw [decide_eq_true (show wOut (S 1) wo rr w = S 1 (343 + 4 * w + 3) from effO_inj hM.cn (Or.inr hou) hex hb10)]; rfl)
    | (rw [decide_eq_false (fun e => hb10 (by rw [e]))]; rfl)

theorem SP_X1_isRight {d : Nat} {g : xG} {x p lk fa ka la n rr ww : Nat} {Z : xAd} {S : xMS} (hM : xMn g x p lk fa ka la Z S n rr ww) {w : Nat} (hw : w < ww) : XM M_X1_isRight (d + 73) [.ref x, .ref ((aW Z).getD w 0)] g (xVal (.int (bI (wRt (S 1) (-1) rr w))) (fun g' => xLb g' x lk fa ka la ∧ xFr (oEq 6) 0 g g')) := by
  refine xm_of (by decide +kernel) (Nat.le_of_ble_eq_true rfl) ?_
  show XW _ _ 0 [(0, _), (1, _)] [] _ _
  refine xw_aload_n (pc := 0) dX1_isRight_0 0 rfl ?_
  refine xw_aload_n (pc := 1) dX1_isRight_1 1 rfl ?_
  refine xw_iconst (v := -1) (pc := 2) dX1_isRight_2 (by decide +kernel) ?_
  refine xw_callF (pc := 3) (xr_V (as := [_, _]) ok_X1_isRight_2 rfl (by decide) q724 q726 qs5 (by rw [hM.tx]; rfl) (by rw [hM.tx]; rfl) dX1_isRight_3 rfl rfl (Nat.le_of_ble_eq_true rfl)) (SP_X1_isRight_2 hM hw) ?_
  intro g3 hc3 hm3
  refine xw_iret (pc := 6) .boolean dX1_isRight_6 rfl ?_ (by first | rfl | (cases ‹Bool› <;> rfl) | exact xnB _)
  exact ⟨rfl, hc3⟩

theorem lp_X1_wrong {d : Nat} {g : xG} {x p lk fa ka la n rr ww : Nat} {Z : xAd} {S : xMS} (hM : xMn g x p lk fa ka la Z S n rr ww) : ∀ (j i : Nat) (gi : xG), ww - i < j → i ≤ ww → xLb gi x lk fa ka la → xFr (oEq 6) 0 g gi → XW M_X1_wrong (d + 74) 4 [(2, .int (nI i)), (1, .int (bset (fun z => !wRt (S 1) (-1) rr z) i)), (0, .ref x)] [] gi (xVal (.int (bset (fun z => !wRt (S 1) (-1) rr z) ww)) (fun g' => xLb g' x lk fa ka la ∧ xFr (oEq 6) 0 g g')) := by
  intro j
  induction j with
  | zero => intro i gi h; omega
  | succ j ih =>
    intro i gi hij hi hB hF
    have hMi := hM.fr6 hF hB
    have w12 := hM.P.wf.w12
    have lw := hM.P.lw
    have htw : i < ww → xtag gi ((aW Z).getD i 0) = 14 := fun h => (hMi.P.wk h).1
    have hst : bset (fun z => !wRt (S 1) (-1) rr z) (i + 1) = bset (fun z => !wRt (S 1) (-1) rr z) i ||| (if (!wRt (S 1) (-1) rr i) = true then nI 1 <<< (nI i &&& 31) else nI 0) := rfl
    refine xw_iload_n (pc := 4) dX1_wrong_4 0 rfl ?_
    refine xw_aload_n (pc := 5) dX1_wrong_5 2 rfl ?_
    refine xw_getS (b := p) (pc := 6) fd_X1_10 dX1_wrong_6 (by first | assumption | (simp [-List.getD_eq_getElem?_getD, xE_setI, xsz_setI, xsl_setI, xtag_setI, xown_setI, xlen_setI, xE_setR, xsz_setR, xsl_setR, xtag_setR, xown_setR, xlen_setR, xE_setW, xsz_setW, xsl_setW, xtag_setW, xown_setW, xlen_setW, xi_setR, xi_setW, xr_setI, xr_setW, xww_setI, xww_setR, xi_setI, xr_setR, xww_setW, xE_new, xsz_new, xsl_new, hMi.tx, hMi.xp, hMi.P.tag, hMi.P.f2, xsub]; done) | (simp [-List.getD_eq_getElem?_getD, xE_setI, xsz_setI, xsl_setI, xtag_setI, xown_setI, xlen_setI, xE_setR, xsz_setR, xsl_setR, xtag_setR, xown_setR, xlen_setR, xE_setW, xsz_setW, xsl_setW, xtag_setW, xown_setW, xlen_setW, xi_setR, xi_setW, xr_setI, xr_setW, xww_setI, xww_setR, xi_setI, xr_setR, xww_setW, xE_new, xsz_new, xsl_new, hMi.tx, hMi.xp, hMi.P.tag, hMi.P.f2] <;> rfl)) (by simp [-List.getD_eq_getElem?_getD, xE_setI, xsz_setI, xsl_setI, xtag_setI, xown_setI, xlen_setI, xE_setR, xsz_setR, xsl_setR, xtag_setR, xown_setR, xlen_setR, xE_setW, xsz_setW, xsl_setW, xtag_setW, xown_setW, xlen_setW, xi_setR, xi_setW, xr_setI, xr_setW, xww_setI, xww_setR, xi_setI, xr_setR, xww_setW, xE_new, xsz_new, xsl_new, hMi.tx, hMi.xp, hMi.P.tag, hMi.P.f2]) ?_
    refine xw_getS (b := (aL Z 4)) (pc := 9) fd_X1_374 dX1_wrong_9 (by first | assumption | (simp [-List.getD_eq_getElem?_getD, xE_setI, xsz_setI, xsl_setI, xtag_setI, xown_setI, xlen_setI, xE_setR, xsz_setR, xsl_setR, xtag_setR, xown_setR, xlen_setR, xE_setW, xsz_setW, xsl_setW, xtag_setW, xown_setW, xlen_setW, xi_setR, xi_setW, xr_setI, xr_setW, xww_setI, xww_setR, xi_setI, xr_setR, xww_setW, xE_new, xsz_new, xsl_new, hMi.tx, hMi.xp, hMi.P.tag, hMi.P.f2, xsub]; done) | (simp [-List.getD_eq_getElem?_getD, xE_setI, xsz_setI, xsl_setI, xtag_setI, xown_setI, xlen_setI, xE_setR, xsz_setR, xsl_setR, xtag_setR, xown_setR, xlen_setR, xE_setW, xsz_setW, xsl_setW, xtag_setW, xown_setW, xlen_setW, xi_setR, xi_setW, xr_setI, xr_setW, xww_setI, xww_setR, xi_setI, xr_setR, xww_setW, xE_new, xsz_new, xsl_new, hMi.tx, hMi.xp, hMi.P.tag, hMi.P.f2] <;> rfl)) (by simp [-List.getD_eq_getElem?_getD, xE_setI, xsz_setI, xsl_setI, xtag_setI, xown_setI, xlen_setI, xE_setR, xsz_setR, xsl_setR, xtag_setR, xown_setR, xlen_setR, xE_setW, xsz_setW, xsl_setW, xtag_setW, xown_setW, xlen_setW, xi_setR, xi_setW, xr_setI, xr_setW, xww_setI, xww_setR, xi_setI, xr_setR, xww_setW, xE_new, xsz_new, xsl_new, hMi.tx, hMi.xp, hMi.P.tag, hMi.P.f2]) ?_
    refine xw_callV (pc := 12) (xr_V (as := []) ok_J2_size rfl (by decide) q701 q702 q703 (by rw [hMi.P.l2.1]; rfl) (by rw [hMi.P.l2.1]; rfl) dX1_wrong_12 rfl rfl (Nat.le_of_ble_eq_true rfl)) (SP_J2_size hMi.P.l2) ?_
    refine xw_icmp_ge (pc := 15) 55 dX1_wrong_15 rfl (fun hb15 => ?_) (fun hb15 => ?_)
    · replace hb15 : (aW Z).length ≤ i := (nI_leI (a := (aW Z).length) (b := i) (by omega) (by omega)).mp hb15
      refine xw_iload_n (pc := 55) dX1_wrong_55 1 rfl ?_
      refine xw_iret (pc := 56) .int dX1_wrong_56 rfl ?_ 
      have ei : i = ww := by omega
      rw [ei]
      exact ⟨rfl, hB, hF⟩
    · replace hb15 : ¬ ((aW Z).length ≤ i) := mt (nI_leI (a := (aW Z).length) (b := i) (by omega) (by omega)).mpr hb15
      have hil : i < ww := by omega
      refine xw_iload_n (pc := 18) dX1_wrong_18 1 rfl ?_
      refine xw_aload_n (pc := 19) dX1_wrong_19 2 rfl ?_
      refine xw_aload_n (pc := 20) dX1_wrong_20 2 rfl ?_
      refine xw_getS (b := p) (pc := 21) fd_X1_10 dX1_wrong_21 (by first | assumption | (simp [-List.getD_eq_getElem?_getD, xE_setI, xsz_setI, xsl_setI, xtag_setI, xown_setI, xlen_setI, xE_setR, xsz_setR, xsl_setR, xtag_setR, xown_setR, xlen_setR, xE_setW, xsz_setW, xsl_setW, xtag_setW, xown_setW, xlen_setW, xi_setR, xi_setW, xr_setI, xr_setW, xww_setI, xww_setR, xi_setI, xr_setR, xww_setW, xE_new, xsz_new, xsl_new, hMi.tx, hMi.xp, hMi.P.tag, hMi.P.f2, xsub]; done) | (simp [-List.getD_eq_getElem?_getD, xE_setI, xsz_setI, xsl_setI, xtag_setI, xown_setI, xlen_setI, xE_setR, xsz_setR, xsl_setR, xtag_setR, xown_setR, xlen_setR, xE_setW, xsz_setW, xsl_setW, xtag_setW, xown_setW, xlen_setW, xi_setR, xi_setW, xr_setI, xr_setW, xww_setI, xww_setR, xi_setI, xr_setR, xww_setW, xE_new, xsz_new, xsl_new, hMi.tx, hMi.xp, hMi.P.tag, hMi.P.f2] <;> rfl)) (by simp [-List.getD_eq_getElem?_getD, xE_setI, xsz_setI, xsl_setI, xtag_setI, xown_setI, xlen_setI, xE_setR, xsz_setR, xsl_setR, xtag_setR, xown_setR, xlen_setR, xE_setW, xsz_setW, xsl_setW, xtag_setW, xown_setW, xlen_setW, xi_setR, xi_setW, xr_setI, xr_setW, xww_setI, xww_setR, xi_setI, xr_setR, xww_setW, xE_new, xsz_new, xsl_new, hMi.tx, hMi.xp, hMi.P.tag, hMi.P.f2]) ?_
      refine xw_getS (b := (aL Z 4)) (pc := 24) fd_X1_374 dX1_wrong_24 (by first | assumption | (simp [-List.getD_eq_getElem?_getD, xE_setI, xsz_setI, xsl_setI, xtag_setI, xown_setI, xlen_setI, xE_setR, xsz_setR, xsl_setR, xtag_setR, xown_setR, xlen_setR, xE_setW, xsz_setW, xsl_setW, xtag_setW, xown_setW, xlen_setW, xi_setR, xi_setW, xr_setI, xr_setW, xww_setI, xww_setR, xi_setI, xr_setR, xww_setW, xE_new, xsz_new, xsl_new, hMi.tx, hMi.xp, hMi.P.tag, hMi.P.f2, xsub]; done) | (simp [-List.getD_eq_getElem?_getD, xE_setI, xsz_setI, xsl_setI, xtag_setI, xown_setI, xlen_setI, xE_setR, xsz_setR, xsl_setR, xtag_setR, xown_setR, xlen_setR, xE_setW, xsz_setW, xsl_setW, xtag_setW, xown_setW, xlen_setW, xi_setR, xi_setW, xr_setI, xr_setW, xww_setI, xww_setR, xi_setI, xr_setR, xww_setW, xE_new, xsz_new, xsl_new, hMi.tx, hMi.xp, hMi.P.tag, hMi.P.f2] <;> rfl)) (by simp [-List.getD_eq_getElem?_getD, xE_setI, xsz_setI, xsl_setI, xtag_setI, xown_setI, xlen_setI, xE_setR, xsz_setR, xsl_setR, xtag_setR, xown_setR, xlen_setR, xE_setW, xsz_setW, xsl_setW, xtag_setW, xown_setW, xlen_setW, xi_setR, xi_setW, xr_setI, xr_setW, xww_setI, xww_setR, xi_setI, xr_setR, xww_setW, xE_new, xsz_new, xsl_new, hMi.tx, hMi.xp, hMi.P.tag, hMi.P.f2]) ?_
      refine xw_iload_n (pc := 27) dX1_wrong_27 0 rfl ?_
      refine xw_callV (pc := 28) (xr_V (as := [_]) ok_J2_get rfl (by decide) q705 q706 q707 (by rw [hMi.P.l2.1]; rfl) (by rw [hMi.P.l2.1]; rfl) dX1_wrong_28 rfl rfl (Nat.le_of_ble_eq_true rfl)) (SP_J2_get hMi.P.l2 i (by rw [lw]; exact hil)) ?_
      refine xw_chkS (pc := 31) dX1_wrong_31 (by rw [htw hil]; exact q719) (by rw [htw hil]; rfl) ?_
      refine xw_callF (pc := 34) (xr_V (as := [_]) ok_X1_isRight rfl (by decide) q720 q722 qs4 (by rw [hMi.tx]; rfl) (by rw [hMi.tx]; rfl) dX1_wrong_34 rfl rfl (Nat.le_of_ble_eq_true rfl)) (SP_X1_isRight hMi hil) ?_
      intro g34 hc34 hm34
      refine xw_if_eq (pc := 37) 44 dX1_wrong_37 rfl (fun hb37 => ?_) (fun hb37 => ?_)
      · replace hb37 := bI_0.mp hb37
        refine xw_iconst (v := nI 1) (pc := 44) dX1_wrong_44 rfl ?_
        refine xw_iload_n (pc := 45) dX1_wrong_45 0 rfl ?_
        refine xw_ishl (pc := 46) dX1_wrong_46 ?_
        refine xw_ior (pc := 47) dX1_wrong_47 ?_
        refine xw_istore_n (l' := [(1, _), (2, _), (0, _)]) (pc := 48) dX1_wrong_48 rfl (by decide) rfl ?_
        refine xw_iinc (v := nI (i + 1)) (l' := [(2, _), (1, _), (0, _)]) (pc := 49) dX1_wrong_49 1 rfl (nI_add _ 1) (by decide) rfl ?_
        refine xw_goto (pc := 52) 4 dX1_wrong_52 rfl ?_
        have h9 := ih (i + 1) g34 (by omega) (by omega) hc34.1 ((hF.tr hc34.2).sub (fun _ h => h) (Nat.le_refl _))
        rw [hst, hb37] at h9
        exact h9
      · replace hb37 := bI_n0.mp hb37
        refine xw_iconst (v := nI 0) (pc := 40) dX1_wrong_40 rfl ?_
        refine xw_goto (pc := 41) 47 dX1_wrong_41 rfl ?_
        refine xw_ior (pc := 47) dX1_wrong_47 ?_
        refine xw_istore_n (l' := [(1, _), (2, _), (0, _)]) (pc := 48) dX1_wrong_48 rfl (by decide) rfl ?_
        refine xw_iinc (v := nI (i + 1)) (l' := [(2, _), (1, _), (0, _)]) (pc := 49) dX1_wrong_49 1 rfl (nI_add _ 1) (by decide) rfl ?_
        refine xw_goto (pc := 52) 4 dX1_wrong_52 rfl ?_
        have h9 := ih (i + 1) g34 (by omega) (by omega) hc34.1 ((hF.tr hc34.2).sub (fun _ h => h) (Nat.le_refl _))
        rw [hst, hb37] at h9
        exact h9
theorem SP_X1_wrong {d : Nat} {g : xG} {x p lk fa ka la n rr ww : Nat} {Z : xAd} {S : xMS} (hM : xMn g x p lk fa ka la Z S n rr ww) : XM M_X1_wrong (d + 74) [.ref x] g (xVal (.int (bset (fun z => !wRt (S 1) (-1) rr z) ww)) (fun g' => xLb g' x lk fa ka la ∧ xFr (oEq 6) 0 g g')) := by
  refine xm_of (by decide +kernel) (Nat.le_of_ble_eq_true rfl) ?_
  show XW _ _ 0 [(0, _)] [] _ _
  refine xw_iconst (v := nI 0) (pc := 0) dX1_wrong_0 rfl ?_
  refine xw_istore_n (l' := [(1, _), (0, _)]) (pc := 1) dX1_wrong_1 rfl (by decide) rfl ?_
  refine xw_iconst (v := nI 0) (pc := 2) dX1_wrong_2 rfl ?_
  refine xw_istore_n (l' := [(2, _), (1, _), (0, _)]) (pc := 3) dX1_wrong_3 rfl (by decide) rfl ?_
  exact lp_X1_wrong hM (ww + 1) 0 g (by omega) (by omega) hM.B xFr.rf

theorem SP_X1_chained {d : Nat} {g : xG} {x p lk fa ka la n rr ww : Nat} {Z : xAd} {S : xMS} (hM : xMn g x p lk fa ka la Z S n rr ww) {w : Nat} (hw : w < ww) : XM M_X1_chained (d + 71) [.ref x, .ref ((aW Z).getD w 0)] g (xVal (.int (borL (wCh (S 1) (-1) rr w) (wCh (S 1) (-1) rr w).length (nI 0))) (fun g' => xLb g' x lk fa ka la ∧ xFr (oEq 6) 0 g g')) := by
  refine xm_of (by decide +kernel) (Nat.le_of_ble_eq_true rfl) ?_
  show XW _ _ 0 [(0, _), (1, _)] [] _ _
  refine xw_aload_n (pc := 0) dX1_chained_0 0 rfl ?_
  refine xw_getS (b := lk) (pc := 1) fd_X1_28 dX1_chained_1 (by first | assumption | (simp [-List.getD_eq_getElem?_getD, xE_setI, xsz_setI, xsl_setI, xtag_setI, xown_setI, xlen_setI, xE_setR, xsz_setR, xsl_setR, xtag_setR, xown_setR, xlen_setR, xE_setW, xsz_setW, xsl_setW, xtag_setW, xown_setW, xlen_setW, xi_setR, xi_setW, xr_setI, xr_setW, xww_setI, xww_setR, xi_setI, xr_setR, xww_setW, xE_new, xsz_new, xsl_new, hM.tx, hM.xp, hM.l3, xsub]; done) | (simp [-List.getD_eq_getElem?_getD, xE_setI, xsz_setI, xsl_setI, xtag_setI, xown_setI, xlen_setI, xE_setR, xsz_setR, xsl_setR, xtag_setR, xown_setR, xlen_setR, xE_setW, xsz_setW, xsl_setW, xtag_setW, xown_setW, xlen_setW, xi_setR, xi_setW, xr_setI, xr_setW, xww_setI, xww_setR, xi_setI, xr_setR, xww_setW, xE_new, xsz_new, xsl_new, hM.tx, hM.xp, hM.l3] <;> rfl)) (by simp [-List.getD_eq_getElem?_getD, xE_setI, xsz_setI, xsl_setI, xtag_setI, xown_setI, xlen_setI, xE_setR, xsz_setR, xsl_setR, xtag_setR, xown_setR, xlen_setR, xE_setW, xsz_setW, xsl_setW, xtag_setW, xown_setW, xlen_setW, xi_setR, xi_setW, xr_setI, xr_setW, xww_setI, xww_setR, xi_setI, xr_setR, xww_setW, xE_new, xsz_new, xsl_new, hM.tx, hM.xp, hM.l3]) ?_
  refine xw_aload_n (pc := 4) dX1_chained_4 1 rfl ?_
  refine xw_iconst (v := -1) (pc := 5) dX1_chained_5 (by decide +kernel) ?_
  refine xw_callF (pc := 6) (xr_V (as := [_, _]) ok_X5_at rfl (by decide) q732 q733 q734 (by first | (rw [hc6.1.lt]; rfl) | (rw [hM.B.lt]; rfl)) (by first | (rw [hc6.1.lt]; rfl) | (rw [hM.B.lt]; rfl)) dX1_chained_6 rfl rfl (Nat.le_of_ble_eq_true rfl)) (SP_X5_at hM.tx hM.ox hM.xp hM.P hw hM.B) ?_
  intro g6 hc6 hm6
  refine xw_callF (pc := 9) (xr_V (as := []) ok_X5_chained rfl (by decide) q868 q869 q870 (by first | (rw [hc6.1.lt]; rfl) | (rw [hM.B.lt]; rfl)) (by first | (rw [hc6.1.lt]; rfl) | (rw [hM.B.lt]; rfl)) dX1_chained_9 rfl rfl (Nat.le_of_ble_eq_true rfl)) (SP_X5_chained (d := d + 5) hc6.1) ?_
  intro g9 hc9 hm9
  refine xw_iret (pc := 12) .int dX1_chained_12 rfl ?_ 
  exact ⟨rfl, hc9.1.lc.B, (hc6.2.tr hc9.2).sub (fun _ h => h) (Nat.le_refl _)⟩

theorem SP_X17_what0 {d : Nat} {g : xG} {b : Nat} {s : Nat → Int32} {w : Nat} (h : xWk g s w b) : XM M_X17_what d [.ref b, .int (nI 0)] g (xOne (some (.int (s (343 + 4 * w + 0)))) g) := by
  obtain ⟨w1, w2, w3, w4, w5, w6⟩ := h
  refine xm_of (by decide +kernel) (Nat.le_of_ble_eq_true rfl) ?_
  show XW _ _ 0 [(0, _), (1, _)] [] _ _
  refine xw_iload_n (pc := 0) dX17_what_0 1 rfl ?_
  refine xw_tableIn (x := nI 0) (pc := 1) 28 dX17_what_1 (by decide) (by decide) rfl rfl ?_
  refine xw_aload_n (pc := 28) dX17_what_28 0 rfl ?_
  refine xw_getI (pc := 29) fd_X17_7 dX17_what_29 (by first | assumption | (simp [-List.getD_eq_getElem?_getD, xE_setI, xsz_setI, xsl_setI, xtag_setI, xown_setI, xlen_setI, xE_setR, xsz_setR, xsl_setR, xtag_setR, xown_setR, xlen_setR, xE_setW, xsz_setW, xsl_setW, xtag_setW, xown_setW, xlen_setW, xi_setR, xi_setW, xr_setI, xr_setW, xww_setI, xww_setR, xi_setI, xr_setR, xww_setW, xE_new, xsz_new, xsl_new, w1, xsub]; done) | (simp [-List.getD_eq_getElem?_getD, xE_setI, xsz_setI, xsl_setI, xtag_setI, xown_setI, xlen_setI, xE_setR, xsz_setR, xsl_setR, xtag_setR, xown_setR, xlen_setR, xE_setW, xsz_setW, xsl_setW, xtag_setW, xown_setW, xlen_setW, xi_setR, xi_setW, xr_setI, xr_setW, xww_setI, xww_setR, xi_setI, xr_setR, xww_setW, xE_new, xsz_new, xsl_new, w1] <;> rfl)) ?_
  refine xw_iret (pc := 32) .int dX17_what_32 rfl ?_ 
  rw [w3]
  exact ⟨rfl, rfl⟩

theorem SP_X17_what1 {d : Nat} {g : xG} {b : Nat} {s : Nat → Int32} {w : Nat} (h : xWk g s w b) : XM M_X17_what d [.ref b, .int (nI 1)] g (xOne (some (.int (s (343 + 4 * w + 1)))) g) := by
  obtain ⟨w1, w2, w3, w4, w5, w6⟩ := h
  refine xm_of (by decide +kernel) (Nat.le_of_ble_eq_true rfl) ?_
  show XW _ _ 0 [(0, _), (1, _)] [] _ _
  refine xw_iload_n (pc := 0) dX17_what_0 1 rfl ?_
  refine xw_tableIn (x := nI 1) (pc := 1) 33 dX17_what_1 (by decide) (by decide) rfl rfl ?_
  refine xw_aload_n (pc := 33) dX17_what_33 0 rfl ?_
  refine xw_getI (pc := 34) fd_X17_13 dX17_what_34 (by first | assumption | (simp [-List.getD_eq_getElem?_getD, xE_setI, xsz_setI, xsl_setI, xtag_setI, xown_setI, xlen_setI, xE_setR, xsz_setR, xsl_setR, xtag_setR, xown_setR, xlen_setR, xE_setW, xsz_setW, xsl_setW, xtag_setW, xown_setW, xlen_setW, xi_setR, xi_setW, xr_setI, xr_setW, xww_setI, xww_setR, xi_setI, xr_setR, xww_setW, xE_new, xsz_new, xsl_new, w1, xsub]; done) | (simp [-List.getD_eq_getElem?_getD, xE_setI, xsz_setI, xsl_setI, xtag_setI, xown_setI, xlen_setI, xE_setR, xsz_setR, xsl_setR, xtag_setR, xown_setR, xlen_setR, xE_setW, xsz_setW, xsl_setW, xtag_setW, xown_setW, xlen_setW, xi_setR, xi_setW, xr_setI, xr_setW, xww_setI, xww_setR, xi_setI, xr_setR, xww_setW, xE_new, xsz_new, xsl_new, w1] <;> rfl)) ?_
  refine xw_iret (pc := 37) .int dX17_what_37 rfl ?_ 
  rw [w4]
  exact ⟨rfl, rfl⟩

theorem SP_X17_what2 {d : Nat} {g : xG} {b : Nat} {s : Nat → Int32} {w : Nat} (h : xWk g s w b) : XM M_X17_what d [.ref b, .int (nI 2)] g (xOne (some (.int (s (343 + 4 * w + 2)))) g) := by
  obtain ⟨w1, w2, w3, w4, w5, w6⟩ := h
  refine xm_of (by decide +kernel) (Nat.le_of_ble_eq_true rfl) ?_
  show XW _ _ 0 [(0, _), (1, _)] [] _ _
  refine xw_iload_n (pc := 0) dX17_what_0 1 rfl ?_
  refine xw_tableIn (x := nI 2) (pc := 1) 38 dX17_what_1 (by decide) (by decide) rfl rfl ?_
  refine xw_aload_n (pc := 38) dX17_what_38 0 rfl ?_
  refine xw_getI (pc := 39) fd_X17_16 dX17_what_39 (by first | assumption | (simp [-List.getD_eq_getElem?_getD, xE_setI, xsz_setI, xsl_setI, xtag_setI, xown_setI, xlen_setI, xE_setR, xsz_setR, xsl_setR, xtag_setR, xown_setR, xlen_setR, xE_setW, xsz_setW, xsl_setW, xtag_setW, xown_setW, xlen_setW, xi_setR, xi_setW, xr_setI, xr_setW, xww_setI, xww_setR, xi_setI, xr_setR, xww_setW, xE_new, xsz_new, xsl_new, w1, xsub]; done) | (simp [-List.getD_eq_getElem?_getD, xE_setI, xsz_setI, xsl_setI, xtag_setI, xown_setI, xlen_setI, xE_setR, xsz_setR, xsl_setR, xtag_setR, xown_setR, xlen_setR, xE_setW, xsz_setW, xsl_setW, xtag_setW, xown_setW, xlen_setW, xi_setR, xi_setW, xr_setI, xr_setW, xww_setI, xww_setR, xi_setI, xr_setR, xww_setW, xE_new, xsz_new, xsl_new, w1] <;> rfl)) ?_
  refine xw_iret (pc := 42) .int dX17_what_42 rfl ?_ 
  rw [w5]
  exact ⟨rfl, rfl⟩

theorem SP_X17_what3 {d : Nat} {g : xG} {b : Nat} {s : Nat → Int32} {w : Nat} (h : xWk g s w b) (hE : xCn g) (he : isN s (343 + 4 * w + 3) 3) : XM M_X17_what (d + 2) [.ref b, .int (nI 3)] g (xOne (some (.int (s (343 + 4 * w + 3)))) g) := by
  obtain ⟨w1, w2, w3, w4, w5, w6⟩ := h
  refine xm_of (by decide +kernel) (Nat.le_of_ble_eq_true rfl) ?_
  show XW _ _ 0 [(0, _), (1, _)] [] _ _
  refine xw_iload_n (pc := 0) dX17_what_0 1 rfl ?_
  refine xw_tableOut (pc := 1) 43 dX17_what_1 (by rw [nI_toInt (by omega)]; omega) rfl ?_
  refine xw_aload_n (pc := 43) dX17_what_43 0 rfl ?_
  refine xw_getR (pc := 44) fd_X17_19 dX17_what_44 (by first | assumption | (simp [-List.getD_eq_getElem?_getD, xE_setI, xsz_setI, xsl_setI, xtag_setI, xown_setI, xlen_setI, xE_setR, xsz_setR, xsl_setR, xtag_setR, xown_setR, xlen_setR, xE_setW, xsz_setW, xsl_setW, xtag_setW, xown_setW, xlen_setW, xi_setR, xi_setW, xr_setI, xr_setW, xww_setI, xww_setR, xi_setI, xr_setR, xww_setW, xE_new, xsz_new, xsl_new, w1, xsub]; done) | (simp [-List.getD_eq_getElem?_getD, xE_setI, xsz_setI, xsl_setI, xtag_setI, xown_setI, xlen_setI, xE_setR, xsz_setR, xsl_setR, xtag_setR, xown_setR, xlen_setR, xE_setW, xsz_setW, xsl_setW, xtag_setW, xown_setW, xlen_setW, xi_setR, xi_setW, xr_setI, xr_setW, xww_setI, xww_setR, xi_setI, xr_setR, xww_setW, xE_new, xsz_new, xsl_new, w1] <;> rfl)) ?_
  rw [w6]
  refine xw_enum (pc := 47) hE ⟨_, he.2, he.1⟩ dX17_what_47 q1672 (Nat.le_of_ble_eq_true rfl) ?_
  refine xw_iret (pc := 50) .int dX17_what_50 rfl ?_ 
  exact ⟨rfl, rfl⟩

theorem SP_X1_caseOf_F {d : Nat} {g : xG} {x p lk fa ka la n rr ww : Nat} {Z : xAd} {S : xMS} (hM : xMn g x p lk fa ka la Z S n rr ww) {v e : Int32} (hv : ¬ inR v (nI 0) (nI ww - nI 1) = true) : XM M_X1_caseOf (d + 80) [.ref x, .int v, .int e] g (xThr (xsz g) (xExc g 23)) := by
  have lw := hM.P.lw
  refine xm_of (by decide +kernel) (Nat.le_of_ble_eq_true rfl) ?_
  show XW _ _ 0 [(0, _), (1, _), (2, _)] [] _ _
  refine xw_aload_n (pc := 0) dX1_caseOf_0 0 rfl ?_
  refine xw_getS (b := p) (pc := 1) fd_X1_10 dX1_caseOf_1 (by first | assumption | (simp [-List.getD_eq_getElem?_getD, xE_setI, xsz_setI, xsl_setI, xtag_setI, xown_setI, xlen_setI, xE_setR, xsz_setR, xsl_setR, xtag_setR, xown_setR, xlen_setR, xE_setW, xsz_setW, xsl_setW, xtag_setW, xown_setW, xlen_setW, xi_setR, xi_setW, xr_setI, xr_setW, xww_setI, xww_setR, xi_setI, xr_setR, xww_setW, xE_new, xsz_new, xsl_new, hM.tx, hM.xp, hM.l3, xsub]; done) | (simp [-List.getD_eq_getElem?_getD, xE_setI, xsz_setI, xsl_setI, xtag_setI, xown_setI, xlen_setI, xE_setR, xsz_setR, xsl_setR, xtag_setR, xown_setR, xlen_setR, xE_setW, xsz_setW, xsl_setW, xtag_setW, xown_setW, xlen_setW, xi_setR, xi_setW, xr_setI, xr_setW, xww_setI, xww_setR, xi_setI, xr_setR, xww_setW, xE_new, xsz_new, xsl_new, hM.tx, hM.xp, hM.l3] <;> rfl)) (by simp [-List.getD_eq_getElem?_getD, xE_setI, xsz_setI, xsl_setI, xtag_setI, xown_setI, xlen_setI, xE_setR, xsz_setR, xsl_setR, xtag_setR, xown_setR, xlen_setR, xE_setW, xsz_setW, xsl_setW, xtag_setW, xown_setW, xlen_setW, xi_setR, xi_setW, xr_setI, xr_setW, xww_setI, xww_setR, xi_setI, xr_setR, xww_setW, xE_new, xsz_new, xsl_new, hM.tx, hM.xp, hM.l3]) ?_
  refine xw_iload_n (pc := 4) dX1_caseOf_4 1 rfl ?_
  refine xw_callX (pc := 5) (xr_V (as := [_]) ok_X2_work rfl (by decide) q1660 q1661 q1662 (by rw [hM.P.tag]; rfl) (by rw [hM.P.tag]; rfl) dX1_caseOf_5 rfl rfl (Nat.le_of_ble_eq_true rfl)) (SP_X2_work_F hM.P.pl v (by rw [lw]; exact hv)) ?_
  exact xx_out0 rfl (by rw [xExc_tag]; decide) (by rw [xExc_tag]; decide) (by rw [xExc_own]; decide) ⟨rfl, rfl⟩

theorem SP_X1_caseOf_F2 {d : Nat} {g : xG} {x p lk fa ka la n rr ww : Nat} {Z : xAd} {S : xMS} (hM : xMn g x p lk fa ka la Z S n rr ww) {w : Nat} {e : Int32} (hw : w < ww) (he : ¬ inR e (nI 0) (nI 6) = true) : XM M_X1_caseOf (d + 80) [.ref x, .int (nI w), .int e] g (xThr (xsz g) (xExc g 22)) := by
  have lw := hM.P.lw
  refine xm_of (by decide +kernel) (Nat.le_of_ble_eq_true rfl) ?_
  show XW _ _ 0 [(0, _), (1, _), (2, _)] [] _ _
  refine xw_aload_n (pc := 0) dX1_caseOf_0 0 rfl ?_
  refine xw_getS (b := p) (pc := 1) fd_X1_10 dX1_caseOf_1 (by first | assumption | (simp [-List.getD_eq_getElem?_getD, xE_setI, xsz_setI, xsl_setI, xtag_setI, xown_setI, xlen_setI, xE_setR, xsz_setR, xsl_setR, xtag_setR, xown_setR, xlen_setR, xE_setW, xsz_setW, xsl_setW, xtag_setW, xown_setW, xlen_setW, xi_setR, xi_setW, xr_setI, xr_setW, xww_setI, xww_setR, xi_setI, xr_setR, xww_setW, xE_new, xsz_new, xsl_new, hM.tx, hM.xp, hM.l3, xsub]; done) | (simp [-List.getD_eq_getElem?_getD, xE_setI, xsz_setI, xsl_setI, xtag_setI, xown_setI, xlen_setI, xE_setR, xsz_setR, xsl_setR, xtag_setR, xown_setR, xlen_setR, xE_setW, xsz_setW, xsl_setW, xtag_setW, xown_setW, xlen_setW, xi_setR, xi_setW, xr_setI, xr_setW, xww_setI, xww_setR, xi_setI, xr_setR, xww_setW, xE_new, xsz_new, xsl_new, hM.tx, hM.xp, hM.l3] <;> rfl)) (by simp [-List.getD_eq_getElem?_getD, xE_setI, xsz_setI, xsl_setI, xtag_setI, xown_setI, xlen_setI, xE_setR, xsz_setR, xsl_setR, xtag_setR, xown_setR, xlen_setR, xE_setW, xsz_setW, xsl_setW, xtag_setW, xown_setW, xlen_setW, xi_setR, xi_setW, xr_setI, xr_setW, xww_setI, xww_setR, xi_setI, xr_setR, xww_setW, xE_new, xsz_new, xsl_new, hM.tx, hM.xp, hM.l3]) ?_
  refine xw_iload_n (pc := 4) dX1_caseOf_4 1 rfl ?_
  refine xw_callV (pc := 5) (xr_V (as := [_]) ok_X2_work rfl (by decide) q1660 q1661 q1662 (by rw [hM.P.tag]; rfl) (by rw [hM.P.tag]; rfl) dX1_caseOf_5 rfl rfl (Nat.le_of_ble_eq_true rfl)) (SP_X2_work hM.P.pl w (by omega) (hM.P.wk hw).1) ?_
  refine xw_astore_n (l' := [(3, _), (0, _), (1, _), (2, _)]) (pc := 8) dX1_caseOf_8 rfl (by decide) rfl ?_
  refine xw_iload_n (pc := 9) dX1_caseOf_9 3 rfl ?_
  refine xw_iconst (v := nI 0) (pc := 10) dX1_caseOf_10 rfl ?_
  refine xw_bipush (v := nI 6) (pc := 11) dX1_caseOf_11 (by decide +kernel) ?_
  refine xw_callV (pc := 13) (xr_S (as := [_, _, _]) ok_X1_isIn rfl (by decide) q1180 q784 dX1_caseOf_13 rfl rfl (Nat.le_of_ble_eq_true rfl)) (SP_X1_isInF he) ?_
  refine xw_callX (pc := 16) (xr_S (as := [_]) ok_X1_check rfl (by decide) q1181 q1182 dX1_caseOf_16 rfl rfl (Nat.le_of_ble_eq_true rfl)) (SP_X1_check_F) ?_
  exact xx_out0 rfl (by rw [xExc_tag]; decide) (by rw [xExc_tag]; decide) (by rw [xExc_own]; decide) ⟨rfl, rfl⟩

theorem SP_X1_caseOf0 {d : Nat} {g : xG} {x p lk fa ka la n rr ww : Nat} {Z : xAd} {S : xMS} (hM : xMn g x p lk fa ka la Z S n rr ww) {w : Nat} (hw : w < ww) : XM M_X1_caseOf (d + 80) [.ref x, .int (nI w), .int (nI 0)] g (xOne (some (.int (S 1 (343 + 4 * w + 0)))) g) := by
  have lw := hM.P.lw
  have twk := (hM.P.wk hw).1
  refine xm_of (by decide +kernel) (Nat.le_of_ble_eq_true rfl) ?_
  show XW _ _ 0 [(0, _), (1, _), (2, _)] [] _ _
  refine xw_aload_n (pc := 0) dX1_caseOf_0 0 rfl ?_
  refine xw_getS (b := p) (pc := 1) fd_X1_10 dX1_caseOf_1 (by first | assumption | (simp [-List.getD_eq_getElem?_getD, xE_setI, xsz_setI, xsl_setI, xtag_setI, xown_setI, xlen_setI, xE_setR, xsz_setR, xsl_setR, xtag_setR, xown_setR, xlen_setR, xE_setW, xsz_setW, xsl_setW, xtag_setW, xown_setW, xlen_setW, xi_setR, xi_setW, xr_setI, xr_setW, xww_setI, xww_setR, xi_setI, xr_setR, xww_setW, xE_new, xsz_new, xsl_new, hM.tx, hM.xp, hM.l3, xsub]; done) | (simp [-List.getD_eq_getElem?_getD, xE_setI, xsz_setI, xsl_setI, xtag_setI, xown_setI, xlen_setI, xE_setR, xsz_setR, xsl_setR, xtag_setR, xown_setR, xlen_setR, xE_setW, xsz_setW, xsl_setW, xtag_setW, xown_setW, xlen_setW, xi_setR, xi_setW, xr_setI, xr_setW, xww_setI, xww_setR, xi_setI, xr_setR, xww_setW, xE_new, xsz_new, xsl_new, hM.tx, hM.xp, hM.l3] <;> rfl)) (by simp [-List.getD_eq_getElem?_getD, xE_setI, xsz_setI, xsl_setI, xtag_setI, xown_setI, xlen_setI, xE_setR, xsz_setR, xsl_setR, xtag_setR, xown_setR, xlen_setR, xE_setW, xsz_setW, xsl_setW, xtag_setW, xown_setW, xlen_setW, xi_setR, xi_setW, xr_setI, xr_setW, xww_setI, xww_setR, xi_setI, xr_setR, xww_setW, xE_new, xsz_new, xsl_new, hM.tx, hM.xp, hM.l3]) ?_
  refine xw_iload_n (pc := 4) dX1_caseOf_4 1 rfl ?_
  refine xw_callV (pc := 5) (xr_V (as := [_]) ok_X2_work rfl (by decide) q1660 q1661 q1662 (by rw [hM.P.tag]; rfl) (by rw [hM.P.tag]; rfl) dX1_caseOf_5 rfl rfl (Nat.le_of_ble_eq_true rfl)) (SP_X2_work hM.P.pl w (by omega) (hM.P.wk hw).1) ?_
  refine xw_astore_n (l' := [(3, _), (0, _), (1, _), (2, _)]) (pc := 8) dX1_caseOf_8 rfl (by decide) rfl ?_
  refine xw_iload_n (pc := 9) dX1_caseOf_9 3 rfl ?_
  refine xw_iconst (v := nI 0) (pc := 10) dX1_caseOf_10 rfl ?_
  refine xw_bipush (v := nI 6) (pc := 11) dX1_caseOf_11 (by decide +kernel) ?_
  refine xw_callV (pc := 13) (xr_S (as := [_, _, _]) ok_X1_isIn rfl (by decide) q1180 q784 dX1_caseOf_13 rfl rfl (Nat.le_of_ble_eq_true rfl)) (SP_X1_isInT (by decide)) ?_
  refine xw_callU (pc := 16) (xr_S (as := [_]) ok_X1_check rfl (by decide) q1181 q1182 dX1_caseOf_16 rfl rfl (Nat.le_of_ble_eq_true rfl)) (SP_X1_check_T) ?_
  refine xw_iload_n (pc := 19) dX1_caseOf_19 3 rfl ?_
  refine xw_tableOut (pc := 20) 85 dX1_caseOf_20 (by rw [nI_toInt (by omega)]; omega) rfl ?_
  refine xw_aload_n (pc := 85) dX1_caseOf_85 0 rfl ?_
  refine xw_iload_n (pc := 86) dX1_caseOf_86 3 rfl ?_
  refine xw_callV (pc := 87) (xr_V (as := [_]) ok_X17_what rfl (by decide) q1668 q1669 q1670 (by rw [twk]; rfl) (by rw [twk]; rfl) dX1_caseOf_87 rfl rfl (Nat.le_of_ble_eq_true rfl)) (SP_X17_what0 (hM.P.wk hw)) ?_
  refine xw_iret (pc := 90) .int dX1_caseOf_90 rfl ?_ 
  exact ⟨rfl, rfl⟩

theorem SP_X1_caseOf1 {d : Nat} {g : xG} {x p lk fa ka la n rr ww : Nat} {Z : xAd} {S : xMS} (hM : xMn g x p lk fa ka la Z S n rr ww) {w : Nat} (hw : w < ww) : XM M_X1_caseOf (d + 80) [.ref x, .int (nI w), .int (nI 1)] g (xOne (some (.int (S 1 (343 + 4 * w + 1)))) g) := by
  have lw := hM.P.lw
  have twk := (hM.P.wk hw).1
  refine xm_of (by decide +kernel) (Nat.le_of_ble_eq_true rfl) ?_
  show XW _ _ 0 [(0, _), (1, _), (2, _)] [] _ _
  refine xw_aload_n (pc := 0) dX1_caseOf_0 0 rfl ?_
  refine xw_getS (b := p) (pc := 1) fd_X1_10 dX1_caseOf_1 (by first | assumption | (simp [-List.getD_eq_getElem?_getD, xE_setI, xsz_setI, xsl_setI, xtag_setI, xown_setI, xlen_setI, xE_setR, xsz_setR, xsl_setR, xtag_setR, xown_setR, xlen_setR, xE_setW, xsz_setW, xsl_setW, xtag_setW, xown_setW, xlen_setW, xi_setR, xi_setW, xr_setI, xr_setW, xww_setI, xww_setR, xi_setI, xr_setR, xww_setW, xE_new, xsz_new, xsl_new, hM.tx, hM.xp, hM.l3, xsub]; done) | (simp [-List.getD_eq_getElem?_getD, xE_setI, xsz_setI, xsl_setI, xtag_setI, xown_setI, xlen_setI, xE_setR, xsz_setR, xsl_setR, xtag_setR, xown_setR, xlen_setR, xE_setW, xsz_setW, xsl_setW, xtag_setW, xown_setW, xlen_setW, xi_setR, xi_setW, xr_setI, xr_setW, xww_setI, xww_setR, xi_setI, xr_setR, xww_setW, xE_new, xsz_new, xsl_new, hM.tx, hM.xp, hM.l3] <;> rfl)) (by simp [-List.getD_eq_getElem?_getD, xE_setI, xsz_setI, xsl_setI, xtag_setI, xown_setI, xlen_setI, xE_setR, xsz_setR, xsl_setR, xtag_setR, xown_setR, xlen_setR, xE_setW, xsz_setW, xsl_setW, xtag_setW, xown_setW, xlen_setW, xi_setR, xi_setW, xr_setI, xr_setW, xww_setI, xww_setR, xi_setI, xr_setR, xww_setW, xE_new, xsz_new, xsl_new, hM.tx, hM.xp, hM.l3]) ?_
  refine xw_iload_n (pc := 4) dX1_caseOf_4 1 rfl ?_
  refine xw_callV (pc := 5) (xr_V (as := [_]) ok_X2_work rfl (by decide) q1660 q1661 q1662 (by rw [hM.P.tag]; rfl) (by rw [hM.P.tag]; rfl) dX1_caseOf_5 rfl rfl (Nat.le_of_ble_eq_true rfl)) (SP_X2_work hM.P.pl w (by omega) (hM.P.wk hw).1) ?_
  refine xw_astore_n (l' := [(3, _), (0, _), (1, _), (2, _)]) (pc := 8) dX1_caseOf_8 rfl (by decide) rfl ?_
  refine xw_iload_n (pc := 9) dX1_caseOf_9 3 rfl ?_
  refine xw_iconst (v := nI 0) (pc := 10) dX1_caseOf_10 rfl ?_
  refine xw_bipush (v := nI 6) (pc := 11) dX1_caseOf_11 (by decide +kernel) ?_
  refine xw_callV (pc := 13) (xr_S (as := [_, _, _]) ok_X1_isIn rfl (by decide) q1180 q784 dX1_caseOf_13 rfl rfl (Nat.le_of_ble_eq_true rfl)) (SP_X1_isInT (by decide)) ?_
  refine xw_callU (pc := 16) (xr_S (as := [_]) ok_X1_check rfl (by decide) q1181 q1182 dX1_caseOf_16 rfl rfl (Nat.le_of_ble_eq_true rfl)) (SP_X1_check_T) ?_
  refine xw_iload_n (pc := 19) dX1_caseOf_19 3 rfl ?_
  refine xw_tableOut (pc := 20) 85 dX1_caseOf_20 (by rw [nI_toInt (by omega)]; omega) rfl ?_
  refine xw_aload_n (pc := 85) dX1_caseOf_85 0 rfl ?_
  refine xw_iload_n (pc := 86) dX1_caseOf_86 3 rfl ?_
  refine xw_callV (pc := 87) (xr_V (as := [_]) ok_X17_what rfl (by decide) q1668 q1669 q1670 (by rw [twk]; rfl) (by rw [twk]; rfl) dX1_caseOf_87 rfl rfl (Nat.le_of_ble_eq_true rfl)) (SP_X17_what1 (hM.P.wk hw)) ?_
  refine xw_iret (pc := 90) .int dX1_caseOf_90 rfl ?_ 
  exact ⟨rfl, rfl⟩

theorem SP_X1_caseOf2 {d : Nat} {g : xG} {x p lk fa ka la n rr ww : Nat} {Z : xAd} {S : xMS} (hM : xMn g x p lk fa ka la Z S n rr ww) {w : Nat} (hw : w < ww) : XM M_X1_caseOf (d + 80) [.ref x, .int (nI w), .int (nI 2)] g (xOne (some (.int (S 1 (343 + 4 * w + 2)))) g) := by
  have lw := hM.P.lw
  have twk := (hM.P.wk hw).1
  refine xm_of (by decide +kernel) (Nat.le_of_ble_eq_true rfl) ?_
  show XW _ _ 0 [(0, _), (1, _), (2, _)] [] _ _
  refine xw_aload_n (pc := 0) dX1_caseOf_0 0 rfl ?_
  refine xw_getS (b := p) (pc := 1) fd_X1_10 dX1_caseOf_1 (by first | assumption | (simp [-List.getD_eq_getElem?_getD, xE_setI, xsz_setI, xsl_setI, xtag_setI, xown_setI, xlen_setI, xE_setR, xsz_setR, xsl_setR, xtag_setR, xown_setR, xlen_setR, xE_setW, xsz_setW, xsl_setW, xtag_setW, xown_setW, xlen_setW, xi_setR, xi_setW, xr_setI, xr_setW, xww_setI, xww_setR, xi_setI, xr_setR, xww_setW, xE_new, xsz_new, xsl_new, hM.tx, hM.xp, hM.l3, xsub]; done) | (simp [-List.getD_eq_getElem?_getD, xE_setI, xsz_setI, xsl_setI, xtag_setI, xown_setI, xlen_setI, xE_setR, xsz_setR, xsl_setR, xtag_setR, xown_setR, xlen_setR, xE_setW, xsz_setW, xsl_setW, xtag_setW, xown_setW, xlen_setW, xi_setR, xi_setW, xr_setI, xr_setW, xww_setI, xww_setR, xi_setI, xr_setR, xww_setW, xE_new, xsz_new, xsl_new, hM.tx, hM.xp, hM.l3] <;> rfl)) (by simp [-List.getD_eq_getElem?_getD, xE_setI, xsz_setI, xsl_setI, xtag_setI, xown_setI, xlen_setI, xE_setR, xsz_setR, xsl_setR, xtag_setR, xown_setR, xlen_setR, xE_setW, xsz_setW, xsl_setW, xtag_setW, xown_setW, xlen_setW, xi_setR, xi_setW, xr_setI, xr_setW, xww_setI, xww_setR, xi_setI, xr_setR, xww_setW, xE_new, xsz_new, xsl_new, hM.tx, hM.xp, hM.l3]) ?_
  refine xw_iload_n (pc := 4) dX1_caseOf_4 1 rfl ?_
  refine xw_callV (pc := 5) (xr_V (as := [_]) ok_X2_work rfl (by decide) q1660 q1661 q1662 (by rw [hM.P.tag]; rfl) (by rw [hM.P.tag]; rfl) dX1_caseOf_5 rfl rfl (Nat.le_of_ble_eq_true rfl)) (SP_X2_work hM.P.pl w (by omega) (hM.P.wk hw).1) ?_
  refine xw_astore_n (l' := [(3, _), (0, _), (1, _), (2, _)]) (pc := 8) dX1_caseOf_8 rfl (by decide) rfl ?_
  refine xw_iload_n (pc := 9) dX1_caseOf_9 3 rfl ?_
  refine xw_iconst (v := nI 0) (pc := 10) dX1_caseOf_10 rfl ?_
  refine xw_bipush (v := nI 6) (pc := 11) dX1_caseOf_11 (by decide +kernel) ?_
  refine xw_callV (pc := 13) (xr_S (as := [_, _, _]) ok_X1_isIn rfl (by decide) q1180 q784 dX1_caseOf_13 rfl rfl (Nat.le_of_ble_eq_true rfl)) (SP_X1_isInT (by decide)) ?_
  refine xw_callU (pc := 16) (xr_S (as := [_]) ok_X1_check rfl (by decide) q1181 q1182 dX1_caseOf_16 rfl rfl (Nat.le_of_ble_eq_true rfl)) (SP_X1_check_T) ?_
  refine xw_iload_n (pc := 19) dX1_caseOf_19 3 rfl ?_
  refine xw_tableOut (pc := 20) 85 dX1_caseOf_20 (by rw [nI_toInt (by omega)]; omega) rfl ?_
  refine xw_aload_n (pc := 85) dX1_caseOf_85 0 rfl ?_
  refine xw_iload_n (pc := 86) dX1_caseOf_86 3 rfl ?_
  refine xw_callV (pc := 87) (xr_V (as := [_]) ok_X17_what rfl (by decide) q1668 q1669 q1670 (by rw [twk]; rfl) (by rw [twk]; rfl) dX1_caseOf_87 rfl rfl (Nat.le_of_ble_eq_true rfl)) (SP_X17_what2 (hM.P.wk hw)) ?_
  refine xw_iret (pc := 90) .int dX1_caseOf_90 rfl ?_ 
  exact ⟨rfl, rfl⟩

theorem SP_X1_caseOf3 {d : Nat} {g : xG} {x p lk fa ka la n rr ww : Nat} {Z : xAd} {S : xMS} (hM : xMn g x p lk fa ka la Z S n rr ww) {w : Nat} (hw : w < ww) : XM M_X1_caseOf (d + 80) [.ref x, .int (nI w), .int (nI 3)] g (xOne (some (.int (S 1 (343 + 4 * w + 3)))) g) := by
  have lw := hM.P.lw
  have twk := (hM.P.wk hw).1
  refine xm_of (by decide +kernel) (Nat.le_of_ble_eq_true rfl) ?_
  show XW _ _ 0 [(0, _), (1, _), (2, _)] [] _ _
  refine xw_aload_n (pc := 0) dX1_caseOf_0 0 rfl ?_
  refine xw_getS (b := p) (pc := 1) fd_X1_10 dX1_caseOf_1 (by first | assumption | (simp [-List.getD_eq_getElem?_getD, xE_setI, xsz_setI, xsl_setI, xtag_setI, xown_setI, xlen_setI, xE_setR, xsz_setR, xsl_setR, xtag_setR, xown_setR, xlen_setR, xE_setW, xsz_setW, xsl_setW, xtag_setW, xown_setW, xlen_setW, xi_setR, xi_setW, xr_setI, xr_setW, xww_setI, xww_setR, xi_setI, xr_setR, xww_setW, xE_new, xsz_new, xsl_new, hM.tx, hM.xp, hM.l3, xsub]; done) | (simp [-List.getD_eq_getElem?_getD, xE_setI, xsz_setI, xsl_setI, xtag_setI, xown_setI, xlen_setI, xE_setR, xsz_setR, xsl_setR, xtag_setR, xown_setR, xlen_setR, xE_setW, xsz_setW, xsl_setW, xtag_setW, xown_setW, xlen_setW, xi_setR, xi_setW, xr_setI, xr_setW, xww_setI, xww_setR, xi_setI, xr_setR, xww_setW, xE_new, xsz_new, xsl_new, hM.tx, hM.xp, hM.l3] <;> rfl)) (by simp [-List.getD_eq_getElem?_getD, xE_setI, xsz_setI, xsl_setI, xtag_setI, xown_setI, xlen_setI, xE_setR, xsz_setR, xsl_setR, xtag_setR, xown_setR, xlen_setR, xE_setW, xsz_setW, xsl_setW, xtag_setW, xown_setW, xlen_setW, xi_setR, xi_setW, xr_setI, xr_setW, xww_setI, xww_setR, xi_setI, xr_setR, xww_setW, xE_new, xsz_new, xsl_new, hM.tx, hM.xp, hM.l3]) ?_
  refine xw_iload_n (pc := 4) dX1_caseOf_4 1 rfl ?_
  refine xw_callV (pc := 5) (xr_V (as := [_]) ok_X2_work rfl (by decide) q1660 q1661 q1662 (by rw [hM.P.tag]; rfl) (by rw [hM.P.tag]; rfl) dX1_caseOf_5 rfl rfl (Nat.le_of_ble_eq_true rfl)) (SP_X2_work hM.P.pl w (by omega) (hM.P.wk hw).1) ?_
  refine xw_astore_n (l' := [(3, _), (0, _), (1, _), (2, _)]) (pc := 8) dX1_caseOf_8 rfl (by decide) rfl ?_
  refine xw_iload_n (pc := 9) dX1_caseOf_9 3 rfl ?_
  refine xw_iconst (v := nI 0) (pc := 10) dX1_caseOf_10 rfl ?_
  refine xw_bipush (v := nI 6) (pc := 11) dX1_caseOf_11 (by decide +kernel) ?_
  refine xw_callV (pc := 13) (xr_S (as := [_, _, _]) ok_X1_isIn rfl (by decide) q1180 q784 dX1_caseOf_13 rfl rfl (Nat.le_of_ble_eq_true rfl)) (SP_X1_isInT (by decide)) ?_
  refine xw_callU (pc := 16) (xr_S (as := [_]) ok_X1_check rfl (by decide) q1181 q1182 dX1_caseOf_16 rfl rfl (Nat.le_of_ble_eq_true rfl)) (SP_X1_check_T) ?_
  refine xw_iload_n (pc := 19) dX1_caseOf_19 3 rfl ?_
  refine xw_tableOut (pc := 20) 85 dX1_caseOf_20 (by rw [nI_toInt (by omega)]; omega) rfl ?_
  refine xw_aload_n (pc := 85) dX1_caseOf_85 0 rfl ?_
  refine xw_iload_n (pc := 86) dX1_caseOf_86 3 rfl ?_
  refine xw_callV (pc := 87) (xr_V (as := [_]) ok_X17_what rfl (by decide) q1668 q1669 q1670 (by rw [twk]; rfl) (by rw [twk]; rfl) dX1_caseOf_87 rfl rfl (Nat.le_of_ble_eq_true rfl)) (SP_X17_what3 (hM.P.wk hw) hM.cn (hM.P.wf.wk hw).2.2.2) ?_
  refine xw_iret (pc := 90) .int dX1_caseOf_90 rfl ?_ 
  exact ⟨rfl, rfl⟩

theorem SP_X1_caseOf4 {d : Nat} {g : xG} {x p lk fa ka la n rr ww : Nat} {Z : xAd} {S : xMS} (hM : xMn g x p lk fa ka la Z S n rr ww) {w : Nat} (hw : w < ww) : XM M_X1_caseOf (d + 80) [.ref x, .int (nI w), .int (nI 4)] g (xVal (.int (wOut (S 1) (-1) rr w)) (fun g' => xLb g' x lk fa ka la ∧ xFr (oEq 6) 0 g g')) := by
  have lw := hM.P.lw
  refine xm_of (by decide +kernel) (Nat.le_of_ble_eq_true rfl) ?_
  show XW _ _ 0 [(0, _), (1, _), (2, _)] [] _ _
  refine xw_aload_n (pc := 0) dX1_caseOf_0 0 rfl ?_
  refine xw_getS (b := p) (pc := 1) fd_X1_10 dX1_caseOf_1 (by first | assumption | (simp [-List.getD_eq_getElem?_getD, xE_setI, xsz_setI, xsl_setI, xtag_setI, xown_setI, xlen_setI, xE_setR, xsz_setR, xsl_setR, xtag_setR, xown_setR, xlen_setR, xE_setW, xsz_setW, xsl_setW, xtag_setW, xown_setW, xlen_setW, xi_setR, xi_setW, xr_setI, xr_setW, xww_setI, xww_setR, xi_setI, xr_setR, xww_setW, xE_new, xsz_new, xsl_new, hM.tx, hM.xp, hM.l3, xsub]; done) | (simp [-List.getD_eq_getElem?_getD, xE_setI, xsz_setI, xsl_setI, xtag_setI, xown_setI, xlen_setI, xE_setR, xsz_setR, xsl_setR, xtag_setR, xown_setR, xlen_setR, xE_setW, xsz_setW, xsl_setW, xtag_setW, xown_setW, xlen_setW, xi_setR, xi_setW, xr_setI, xr_setW, xww_setI, xww_setR, xi_setI, xr_setR, xww_setW, xE_new, xsz_new, xsl_new, hM.tx, hM.xp, hM.l3] <;> rfl)) (by simp [-List.getD_eq_getElem?_getD, xE_setI, xsz_setI, xsl_setI, xtag_setI, xown_setI, xlen_setI, xE_setR, xsz_setR, xsl_setR, xtag_setR, xown_setR, xlen_setR, xE_setW, xsz_setW, xsl_setW, xtag_setW, xown_setW, xlen_setW, xi_setR, xi_setW, xr_setI, xr_setW, xww_setI, xww_setR, xi_setI, xr_setR, xww_setW, xE_new, xsz_new, xsl_new, hM.tx, hM.xp, hM.l3]) ?_
  refine xw_iload_n (pc := 4) dX1_caseOf_4 1 rfl ?_
  refine xw_callV (pc := 5) (xr_V (as := [_]) ok_X2_work rfl (by decide) q1660 q1661 q1662 (by rw [hM.P.tag]; rfl) (by rw [hM.P.tag]; rfl) dX1_caseOf_5 rfl rfl (Nat.le_of_ble_eq_true rfl)) (SP_X2_work hM.P.pl w (by omega) (hM.P.wk hw).1) ?_
  refine xw_astore_n (l' := [(3, _), (0, _), (1, _), (2, _)]) (pc := 8) dX1_caseOf_8 rfl (by decide) rfl ?_
  refine xw_iload_n (pc := 9) dX1_caseOf_9 3 rfl ?_
  refine xw_iconst (v := nI 0) (pc := 10) dX1_caseOf_10 rfl ?_
  refine xw_bipush (v := nI 6) (pc := 11) dX1_caseOf_11 (by decide +kernel) ?_
  refine xw_callV (pc := 13) (xr_S (as := [_, _, _]) ok_X1_isIn rfl (by decide) q1180 q784 dX1_caseOf_13 rfl rfl (Nat.le_of_ble_eq_true rfl)) (SP_X1_isInT (by decide)) ?_
  refine xw_callU (pc := 16) (xr_S (as := [_]) ok_X1_check rfl (by decide) q1181 q1182 dX1_caseOf_16 rfl rfl (Nat.le_of_ble_eq_true rfl)) (SP_X1_check_T) ?_
  refine xw_iload_n (pc := 19) dX1_caseOf_19 3 rfl ?_
  refine xw_tableIn (x := nI 4) (pc := 20) 48 dX1_caseOf_20 (by decide) (by decide) rfl rfl ?_
  refine xw_aload_n (pc := 48) dX1_caseOf_48 1 rfl ?_
  refine xw_aload_n (pc := 49) dX1_caseOf_49 0 rfl ?_
  refine xw_iconst (v := -1) (pc := 50) dX1_caseOf_50 (by decide +kernel) ?_
  refine xw_callF (pc := 51) (xr_V (as := [_, _]) ok_X1_outcomeOf rfl (by decide) q728 q730 qs6 (by rw [hM.tx]; rfl) (by rw [hM.tx]; rfl) dX1_caseOf_51 rfl rfl (Nat.le_of_ble_eq_true rfl)) (SP_X1_outcomeOf (d := d + 8) (wo := -1) hM hw) ?_
  intro g51 hc51 hm51
  rw [show effO g (wOut (S 1) (-1) rr w) = effO g51 (wOut (S 1) (-1) rr w) from (effO_fr hc51.2 _).symm]
  refine xw_enum (pc := 54) (hM.cn.fr hc51.2 (by unfold oEq; omega)) (ocm_e hM.P.wf (hM.P.wf.wk hw).1.2) dX1_caseOf_54 q1192 (Nat.le_of_ble_eq_true rfl) ?_
  refine xw_iret (pc := 57) .int dX1_caseOf_57 rfl ?_ 
  exact ⟨rfl, hc51⟩

theorem SP_X1_caseOf5 {d : Nat} {g : xG} {x p lk fa ka la n rr ww : Nat} {Z : xAd} {S : xMS} (hM : xMn g x p lk fa ka la Z S n rr ww) {w : Nat} (hw : w < ww) : XM M_X1_caseOf (d + 80) [.ref x, .int (nI w), .int (nI 5)] g (xVal (.int (bI (wRt (S 1) (-1) rr w))) (fun g' => xLb g' x lk fa ka la ∧ xFr (oEq 6) 0 g g')) := by
  have lw := hM.P.lw
  refine xm_of (by decide +kernel) (Nat.le_of_ble_eq_true rfl) ?_
  show XW _ _ 0 [(0, _), (1, _), (2, _)] [] _ _
  refine xw_aload_n (pc := 0) dX1_caseOf_0 0 rfl ?_
  refine xw_getS (b := p) (pc := 1) fd_X1_10 dX1_caseOf_1 (by first | assumption | (simp [-List.getD_eq_getElem?_getD, xE_setI, xsz_setI, xsl_setI, xtag_setI, xown_setI, xlen_setI, xE_setR, xsz_setR, xsl_setR, xtag_setR, xown_setR, xlen_setR, xE_setW, xsz_setW, xsl_setW, xtag_setW, xown_setW, xlen_setW, xi_setR, xi_setW, xr_setI, xr_setW, xww_setI, xww_setR, xi_setI, xr_setR, xww_setW, xE_new, xsz_new, xsl_new, hM.tx, hM.xp, hM.l3, xsub]; done) | (simp [-List.getD_eq_getElem?_getD, xE_setI, xsz_setI, xsl_setI, xtag_setI, xown_setI, xlen_setI, xE_setR, xsz_setR, xsl_setR, xtag_setR, xown_setR, xlen_setR, xE_setW, xsz_setW, xsl_setW, xtag_setW, xown_setW, xlen_setW, xi_setR, xi_setW, xr_setI, xr_setW, xww_setI, xww_setR, xi_setI, xr_setR, xww_setW, xE_new, xsz_new, xsl_new, hM.tx, hM.xp, hM.l3] <;> rfl)) (by simp [-List.getD_eq_getElem?_getD, xE_setI, xsz_setI, xsl_setI, xtag_setI, xown_setI, xlen_setI, xE_setR, xsz_setR, xsl_setR, xtag_setR, xown_setR, xlen_setR, xE_setW, xsz_setW, xsl_setW, xtag_setW, xown_setW, xlen_setW, xi_setR, xi_setW, xr_setI, xr_setW, xww_setI, xww_setR, xi_setI, xr_setR, xww_setW, xE_new, xsz_new, xsl_new, hM.tx, hM.xp, hM.l3]) ?_
  refine xw_iload_n (pc := 4) dX1_caseOf_4 1 rfl ?_
  refine xw_callV (pc := 5) (xr_V (as := [_]) ok_X2_work rfl (by decide) q1660 q1661 q1662 (by rw [hM.P.tag]; rfl) (by rw [hM.P.tag]; rfl) dX1_caseOf_5 rfl rfl (Nat.le_of_ble_eq_true rfl)) (SP_X2_work hM.P.pl w (by omega) (hM.P.wk hw).1) ?_
  refine xw_astore_n (l' := [(3, _), (0, _), (1, _), (2, _)]) (pc := 8) dX1_caseOf_8 rfl (by decide) rfl ?_
  refine xw_iload_n (pc := 9) dX1_caseOf_9 3 rfl ?_
  refine xw_iconst (v := nI 0) (pc := 10) dX1_caseOf_10 rfl ?_
  refine xw_bipush (v := nI 6) (pc := 11) dX1_caseOf_11 (by decide +kernel) ?_
  refine xw_callV (pc := 13) (xr_S (as := [_, _, _]) ok_X1_isIn rfl (by decide) q1180 q784 dX1_caseOf_13 rfl rfl (Nat.le_of_ble_eq_true rfl)) (SP_X1_isInT (by decide)) ?_
  refine xw_callU (pc := 16) (xr_S (as := [_]) ok_X1_check rfl (by decide) q1181 q1182 dX1_caseOf_16 rfl rfl (Nat.le_of_ble_eq_true rfl)) (SP_X1_check_T) ?_
  refine xw_iload_n (pc := 19) dX1_caseOf_19 3 rfl ?_
  refine xw_tableIn (x := nI 5) (pc := 20) 58 dX1_caseOf_20 (by decide) (by decide) rfl rfl ?_
  refine xw_aload_n (pc := 58) dX1_caseOf_58 1 rfl ?_
  refine xw_aload_n (pc := 59) dX1_caseOf_59 0 rfl ?_
  refine xw_callF (pc := 60) (xr_V (as := [_]) ok_X1_isRight rfl (by decide) q720 q722 qs4 (by rw [hM.tx]; rfl) (by rw [hM.tx]; rfl) dX1_caseOf_60 rfl rfl (Nat.le_of_ble_eq_true rfl)) (SP_X1_isRight (d := d + 6) hM hw) ?_
  intro g60 hc60 hm60
  refine xw_if_eq (pc := 63) 70 dX1_caseOf_63 rfl (fun hb63 => ?_) (fun hb63 => ?_)
  · replace hb63 := bI_0.mp hb63
    refine xw_iconst (v := nI 0) (pc := 70) dX1_caseOf_70 rfl ?_
    refine xw_iret (pc := 71) .int dX1_caseOf_71 rfl ?_ 
    rw [hb63]
    exact ⟨rfl, hc60⟩
  · replace hb63 := bI_n0.mp hb63
    refine xw_iconst (v := nI 1) (pc := 66) dX1_caseOf_66 rfl ?_
    refine xw_goto (pc := 67) 71 dX1_caseOf_67 rfl ?_
    refine xw_iret (pc := 71) .int dX1_caseOf_71 rfl ?_ 
    rw [hb63]
    exact ⟨rfl, hc60⟩

theorem SP_X1_caseOf6 {d : Nat} {g : xG} {x p lk fa ka la n rr ww : Nat} {Z : xAd} {S : xMS} (hM : xMn g x p lk fa ka la Z S n rr ww) {w : Nat} (hw : w < ww) : XM M_X1_caseOf (d + 80) [.ref x, .int (nI w), .int (nI 6)] g (xVal (.int (nI (wCh (S 1) (-1) rr w).length)) (fun g' => xLb g' x lk fa ka la ∧ xFr (oEq 6) 0 g g')) := by
  have lw := hM.P.lw
  refine xm_of (by decide +kernel) (Nat.le_of_ble_eq_true rfl) ?_
  show XW _ _ 0 [(0, _), (1, _), (2, _)] [] _ _
  refine xw_aload_n (pc := 0) dX1_caseOf_0 0 rfl ?_
  refine xw_getS (b := p) (pc := 1) fd_X1_10 dX1_caseOf_1 (by first | assumption | (simp [-List.getD_eq_getElem?_getD, xE_setI, xsz_setI, xsl_setI, xtag_setI, xown_setI, xlen_setI, xE_setR, xsz_setR, xsl_setR, xtag_setR, xown_setR, xlen_setR, xE_setW, xsz_setW, xsl_setW, xtag_setW, xown_setW, xlen_setW, xi_setR, xi_setW, xr_setI, xr_setW, xww_setI, xww_setR, xi_setI, xr_setR, xww_setW, xE_new, xsz_new, xsl_new, hM.tx, hM.xp, hM.l3, xsub]; done) | (simp [-List.getD_eq_getElem?_getD, xE_setI, xsz_setI, xsl_setI, xtag_setI, xown_setI, xlen_setI, xE_setR, xsz_setR, xsl_setR, xtag_setR, xown_setR, xlen_setR, xE_setW, xsz_setW, xsl_setW, xtag_setW, xown_setW, xlen_setW, xi_setR, xi_setW, xr_setI, xr_setW, xww_setI, xww_setR, xi_setI, xr_setR, xww_setW, xE_new, xsz_new, xsl_new, hM.tx, hM.xp, hM.l3] <;> rfl)) (by simp [-List.getD_eq_getElem?_getD, xE_setI, xsz_setI, xsl_setI, xtag_setI, xown_setI, xlen_setI, xE_setR, xsz_setR, xsl_setR, xtag_setR, xown_setR, xlen_setR, xE_setW, xsz_setW, xsl_setW, xtag_setW, xown_setW, xlen_setW, xi_setR, xi_setW, xr_setI, xr_setW, xww_setI, xww_setR, xi_setI, xr_setR, xww_setW, xE_new, xsz_new, xsl_new, hM.tx, hM.xp, hM.l3]) ?_
  refine xw_iload_n (pc := 4) dX1_caseOf_4 1 rfl ?_
  refine xw_callV (pc := 5) (xr_V (as := [_]) ok_X2_work rfl (by decide) q1660 q1661 q1662 (by rw [hM.P.tag]; rfl) (by rw [hM.P.tag]; rfl) dX1_caseOf_5 rfl rfl (Nat.le_of_ble_eq_true rfl)) (SP_X2_work hM.P.pl w (by omega) (hM.P.wk hw).1) ?_
  refine xw_astore_n (l' := [(3, _), (0, _), (1, _), (2, _)]) (pc := 8) dX1_caseOf_8 rfl (by decide) rfl ?_
  refine xw_iload_n (pc := 9) dX1_caseOf_9 3 rfl ?_
  refine xw_iconst (v := nI 0) (pc := 10) dX1_caseOf_10 rfl ?_
  refine xw_bipush (v := nI 6) (pc := 11) dX1_caseOf_11 (by decide +kernel) ?_
  refine xw_callV (pc := 13) (xr_S (as := [_, _, _]) ok_X1_isIn rfl (by decide) q1180 q784 dX1_caseOf_13 rfl rfl (Nat.le_of_ble_eq_true rfl)) (SP_X1_isInT (by decide)) ?_
  refine xw_callU (pc := 16) (xr_S (as := [_]) ok_X1_check rfl (by decide) q1181 q1182 dX1_caseOf_16 rfl rfl (Nat.le_of_ble_eq_true rfl)) (SP_X1_check_T) ?_
  refine xw_iload_n (pc := 19) dX1_caseOf_19 3 rfl ?_
  refine xw_tableIn (x := nI 6) (pc := 20) 72 dX1_caseOf_20 (by decide) (by decide) rfl rfl ?_
  refine xw_aload_n (pc := 72) dX1_caseOf_72 1 rfl ?_
  refine xw_getS (b := lk) (pc := 73) fd_X1_28 dX1_caseOf_73 (by first | assumption | (simp [-List.getD_eq_getElem?_getD, xE_setI, xsz_setI, xsl_setI, xtag_setI, xown_setI, xlen_setI, xE_setR, xsz_setR, xsl_setR, xtag_setR, xown_setR, xlen_setR, xE_setW, xsz_setW, xsl_setW, xtag_setW, xown_setW, xlen_setW, xi_setR, xi_setW, xr_setI, xr_setW, xww_setI, xww_setR, xi_setI, xr_setR, xww_setW, xE_new, xsz_new, xsl_new, hM.tx, hM.xp, hM.l3, xsub]; done) | (simp [-List.getD_eq_getElem?_getD, xE_setI, xsz_setI, xsl_setI, xtag_setI, xown_setI, xlen_setI, xE_setR, xsz_setR, xsl_setR, xtag_setR, xown_setR, xlen_setR, xE_setW, xsz_setW, xsl_setW, xtag_setW, xown_setW, xlen_setW, xi_setR, xi_setW, xr_setI, xr_setW, xww_setI, xww_setR, xi_setI, xr_setR, xww_setW, xE_new, xsz_new, xsl_new, hM.tx, hM.xp, hM.l3] <;> rfl)) (by simp [-List.getD_eq_getElem?_getD, xE_setI, xsz_setI, xsl_setI, xtag_setI, xown_setI, xlen_setI, xE_setR, xsz_setR, xsl_setR, xtag_setR, xown_setR, xlen_setR, xE_setW, xsz_setW, xsl_setW, xtag_setW, xown_setW, xlen_setW, xi_setR, xi_setW, xr_setI, xr_setW, xww_setI, xww_setR, xi_setI, xr_setR, xww_setW, xE_new, xsz_new, xsl_new, hM.tx, hM.xp, hM.l3]) ?_
  refine xw_aload_n (pc := 76) dX1_caseOf_76 0 rfl ?_
  refine xw_iconst (v := -1) (pc := 77) dX1_caseOf_77 (by decide +kernel) ?_
  refine xw_callF (pc := 78) (xr_V (as := [_, _]) ok_X5_at rfl (by decide) q732 q733 q734 (by first | (rw [hc78.1.lt]; rfl) | (rw [hM.B.lt]; rfl)) (by first | (rw [hc78.1.lt]; rfl) | (rw [hM.B.lt]; rfl)) dX1_caseOf_78 rfl rfl (Nat.le_of_ble_eq_true rfl)) (SP_X5_at hM.tx hM.ox hM.xp hM.P hw hM.B) ?_
  intro g78 hc78 hm78
  refine xw_callF (pc := 81) (xr_V (as := []) ok_X5_chain rfl (by decide) q1558 q873 q874 (by first | (rw [hc78.1.lt]; rfl) | (rw [hM.B.lt]; rfl)) (by first | (rw [hc78.1.lt]; rfl) | (rw [hM.B.lt]; rfl)) dX1_caseOf_81 rfl rfl (Nat.le_of_ble_eq_true rfl)) (SP_X5_chain (d := d + 15) hc78.1) ?_
  intro g81 hc81 hm81
  refine xw_iret (pc := 84) .int dX1_caseOf_84 rfl ?_ 
  exact ⟨rfl, hc81.1.lc.B, (hc78.2.tr hc81.2.1).sub (fun _ h => h) (Nat.le_refl _)⟩

