/-! CLASS 36: works, added and dropped -/
set_option maxRecDepth 100000
/-- the ints without the work k -/
def dropUp (s : Nat → Int32) (ww k : Nat) : Nat → Int32 := fun j => if j = 2 then nI (ww - 1) else if 343 + 4 * k ≤ j ∧ j < 343 + 4 * (ww - 1) then s (j + 4) else s j
/-- the ints with one more work -/
def wkUp (s : Nat → Int32) (ww : Nat) (sc day feats e : Int32) : Nat → Int32 := fun j => if j = 2 then nI (ww + 1) else if j = 343 + 4 * ww then sc else if j = 343 + 4 * ww + 1 then day else if j = 343 + 4 * ww + 2 then feats else if j = 343 + 4 * ww + 3 then e else s j
theorem getD_ers {ls : List Nat} {k i : Nat} : (ls.eraseIdx k).getD i 0 = ls.getD (if i < k then i else i + 1) 0 := by
  rw [getD_erase]
  split <;> rfl
theorem dropUp_w {s : Nat → Int32} {ww k i c : Nat} (hw : ww ≤ 12) (hi : i < ww - 1) (hc : c < 4) : dropUp s ww k (343 + 4 * i + c) = s (343 + 4 * (if i < k then i else i + 1) + c) := by
  unfold dropUp
  rw [if_neg (by omega)]
  by_cases e : i < k
  · rw [if_pos e, if_neg (by omega)]
  · rw [if_neg e, if_pos ⟨by omega, by omega⟩]
    congr 1
    omega
theorem xPol.dropW {g g' : xG} {p N : Nat} {Z : xAd} {s : Nat → Int32} {n rr ww k : Nat} (h : xPol g p Z s n rr ww) (F : xFr (oEq (1000 * p + 3)) N g g') (hk : k < ww) (al : xAL g' (1000 * p + 3) (aL Z 4) (aL Z 5) ((aW Z).eraseIdx k)) : xPol g' p (Z.1, aC Z, aR Z, (aW Z).eraseIdx k, Z.2.2.2.2) (dropUp s ww k) n rr (ww - 1) := by
  have lw := h.lw
  have w12 := h.wf.w12
  have p0 := h.p0
  have hl : ((aW Z).eraseIdx k).length = ww - 1 := by rw [List.length_eraseIdx_of_lt (by omega), lw]
  have q := h.setW (s' := dropUp s ww k) F al (by omega) (by rw [hl]; exact if_pos rfl) (fun j hj h2 => by unfold dropUp; rw [if_neg h2, if_neg (by omega)]) (fun i hi => by
    rw [hl] at hi
    rw [getD_ers]
    have hi2 : (if i < k then i else i + 1) < ww := by split <;> omega
    exact ⟨WFwk_c (fun c hc => dropUp_w w12 hi hc) (h.wf.wk hi2), ((h.wk hi2).fr F (by unfold oEq; omega)).to (fun c hc => dropUp_w w12 hi hc)⟩)
  rw [hl] at q
  exact q
theorem wkUp_o {s : Nat → Int32} {ww i c : Nat} {sc day feats e : Int32} (hi : i < ww) (hc : c < 4) : wkUp s ww sc day feats e (343 + 4 * i + c) = s (343 + 4 * i + c) := by
  unfold wkUp
  rw [if_neg (by omega), if_neg (by omega), if_neg (by omega), if_neg (by omega), if_neg (by omega)]
theorem xPol.addW {g g' : xG} {p N : Nat} {Z : xAd} {s : Nat → Int32} {n rr ww k a f q c : Nat} (h : xPol g p Z s n rr ww) (F : xFr (oEq (1000 * p + 3)) N g g') (hw : ww < 12) (al : xAL g' (1000 * p + 3) (aL Z 4) (aL Z 5) (aW Z ++ [c])) (hk : k < n) (ha : a < 1000) (hf : f < 1000000) (hq : q < 3)
    (hc : xtag g' c = 14 ∧ xown g' c = 2 ∧ xi g' c 0 = nI k ∧ xi g' c 1 = nI a ∧ xi g' c 2 = nI f ∧ xr g' c 3 = effO g' (nI q)) : xPol g' p (Z.1, aC Z, aR Z, aW Z ++ [c], Z.2.2.2.2) (wkUp s ww (nI k) (nI a) (nI f) (nI q)) n rr (ww + 1) := by
  have lw := h.lw
  have n10 := h.wf.n10
  have p0 := h.p0
  have hl : (aW Z ++ [c]).length = ww + 1 := by rw [List.length_append, lw]; rfl
  have e0 : wkUp s ww (nI k) (nI a) (nI f) (nI q) (343 + 4 * ww) = nI k := by unfold wkUp; rw [if_neg (by omega), if_pos rfl]
  have e1 : wkUp s ww (nI k) (nI a) (nI f) (nI q) (343 + 4 * ww + 1) = nI a := by unfold wkUp; rw [if_neg (by omega), if_neg (by omega), if_pos rfl]
  have e2 : wkUp s ww (nI k) (nI a) (nI f) (nI q) (343 + 4 * ww + 2) = nI f := by unfold wkUp; rw [if_neg (by omega), if_neg (by omega), if_neg (by omega), if_pos rfl]
  have e3 : wkUp s ww (nI k) (nI a) (nI f) (nI q) (343 + 4 * ww + 3) = nI q := by unfold wkUp; rw [if_neg (by omega), if_neg (by omega), if_neg (by omega), if_neg (by omega), if_pos rfl]
  have z := h.setW (s' := wkUp s ww (nI k) (nI a) (nI f) (nI q)) F al (by omega) (by rw [hl]; exact if_pos rfl) (fun j hj h2 => by unfold wkUp; rw [if_neg h2, if_neg (by omega), if_neg (by omega), if_neg (by omega), if_neg (by omega)]) (fun i hi => by
    rw [hl] at hi
    by_cases e : i = ww
    · subst e
      rw [show (aW Z ++ [c]).getD i 0 = c from by rw [← lw]; exact getD_app2]
      refine ⟨⟨isN_nI e0 hk (by omega), isN_nI e1 ha (by omega), isN_nI e2 hf (by omega), isN_nI e3 hq (by omega)⟩, hc.1, hc.2.1, ?_, ?_, ?_, ?_⟩
      · rw [e0]; exact hc.2.2.1
      · rw [e1]; exact hc.2.2.2.1
      · rw [e2]; exact hc.2.2.2.2.1
      · rw [e3]; exact hc.2.2.2.2.2
    · have hi2 : i < ww := by omega
      rw [getD_app1 (by omega)]
      exact ⟨WFwk_c (fun c hc => wkUp_o hi2 hc) (h.wf.wk hi2), ((h.wk hi2).fr F (by unfold oEq; omega)).to (fun c hc => wkUp_o hi2 hc)⟩)
  rw [hl] at z
  exact z
theorem SP_X1_dropCase_F {d : Nat} {g : xG} {x p lk fa ka la n rr ww : Nat} {Z : xAd} {S : xMS} (hM : xMn g x p lk fa ka la Z S n rr ww) {v : Int32} (hv : ¬ inR v (nI 0) (nI ww - nI 1) = true) : XM M_X1_dropCase (d + 80) [.ref x, .int v] g (xThr (xsz g) (xExc g 23)) := by
  have hlc := hM.P.lc
  have n10 := hM.P.wf.n10
  have hlw := hM.P.lw
  have w12 := hM.P.wf.w12
  have hF : inR v (nI 0) (nI (aW Z).length - nI 1) = false := by rw [hlw]; exact Bool.eq_false_iff.mpr hv
  refine xm_of (by decide +kernel) (Nat.le_of_ble_eq_true rfl) ?_
  show XW _ _ 0 [(0, _), (1, _)] [] _ _
  refine xw_aload_n (pc := 0) dX1_dropCase_0 0 rfl ?_
  refine xw_getS (b := p) (pc := 1) fd_X1_10 dX1_dropCase_1 (by first | assumption | (simp [-List.getD_eq_getElem?_getD, xE_setI, xsz_setI, xsl_setI, xtag_setI, xown_setI, xlen_setI, xE_setR, xsz_setR, xsl_setR, xtag_setR, xown_setR, xlen_setR, xE_setW, xsz_setW, xsl_setW, xtag_setW, xown_setW, xlen_setW, xi_setR, xi_setW, xr_setI, xr_setW, xww_setI, xww_setR, xi_setI, xr_setR, xww_setW, xE_new, xsz_new, xsl_new, hM.tx, hM.xp, hM.l3, xsub]; done) | (simp [-List.getD_eq_getElem?_getD, xE_setI, xsz_setI, xsl_setI, xtag_setI, xown_setI, xlen_setI, xE_setR, xsz_setR, xsl_setR, xtag_setR, xown_setR, xlen_setR, xE_setW, xsz_setW, xsl_setW, xtag_setW, xown_setW, xlen_setW, xi_setR, xi_setW, xr_setI, xr_setW, xww_setI, xww_setR, xi_setI, xr_setR, xww_setW, xE_new, xsz_new, xsl_new, hM.tx, hM.xp, hM.l3] <;> rfl)) (by simp [-List.getD_eq_getElem?_getD, xE_setI, xsz_setI, xsl_setI, xtag_setI, xown_setI, xlen_setI, xE_setR, xsz_setR, xsl_setR, xtag_setR, xown_setR, xlen_setR, xE_setW, xsz_setW, xsl_setW, xtag_setW, xown_setW, xlen_setW, xi_setR, xi_setW, xr_setI, xr_setW, xww_setI, xww_setR, xi_setI, xr_setR, xww_setW, xE_new, xsz_new, xsl_new, hM.tx, hM.xp, hM.l3]) ?_
  refine xw_iload_n (pc := 4) dX1_dropCase_4 1 rfl ?_
  refine xw_callV (pc := 5) (xr_V (as := [_]) ok_X2_isWork rfl (by decide) q1680 q1665 q1666 (by rw [hM.P.tag]; rfl) (by rw [hM.P.tag]; rfl) dX1_dropCase_5 rfl rfl (Nat.le_of_ble_eq_true rfl)) ((show XM M_X2_isWork (d + 79) [.ref p, .int v] g (xOne (some (.int (bI false))) g) from hF ▸ SP_X2_isWork hM.P.pl)) ?_
  refine xw_callX (pc := 8) (xr_S (as := [_]) ok_X1_checkIndex rfl (by decide) q1252 q1066 dX1_dropCase_8 rfl rfl (Nat.le_of_ble_eq_true rfl)) (SP_X1_checkIndex_F) ?_
  exact xx_out0 rfl (by rw [xExc_tag]; decide) (by rw [xExc_tag]; decide) (by rw [xExc_own]; decide) ⟨rfl, rfl⟩

theorem SP_X1_dropCase {d : Nat} {g : xG} {x p lk fa ka la n rr ww : Nat} {Z : xAd} {S : xMS} (hM : xMn g x p lk fa ka la Z S n rr ww) {dq da h : Nat} {ps : List Nat} (hPa : xr g x 2 = some dq ∧ xAD g 7 dq da h ps ∧ True ∧ ps.length ≤ 8) {k : Nat} (hk : k < ww) : XM M_X1_dropCase (d + 80) [.ref x, .int (nI k)] g (xVal (.int (nI (ww - 1))) (xChd g p dq da (S 1) ps (dropUp (S 1) ww k) n rr (ww - 1))) := by
  have hlc := hM.P.lc
  have n10 := hM.P.wf.n10
  have hlw := hM.P.lw
  have w12 := hM.P.wf.w12
  have hF : inR (nI k) (nI 0) (nI (aW Z).length - nI 1) = true := inR_k (by omega) (by omega)
  refine xm_of (by decide +kernel) (Nat.le_of_ble_eq_true rfl) ?_
  show XW _ _ 0 [(0, _), (1, _)] [] _ _
  refine xw_aload_n (pc := 0) dX1_dropCase_0 0 rfl ?_
  refine xw_getS (b := p) (pc := 1) fd_X1_10 dX1_dropCase_1 (by first | assumption | (simp [-List.getD_eq_getElem?_getD, xE_setI, xsz_setI, xsl_setI, xtag_setI, xown_setI, xlen_setI, xE_setR, xsz_setR, xsl_setR, xtag_setR, xown_setR, xlen_setR, xE_setW, xsz_setW, xsl_setW, xtag_setW, xown_setW, xlen_setW, xi_setR, xi_setW, xr_setI, xr_setW, xww_setI, xww_setR, xi_setI, xr_setR, xww_setW, xE_new, xsz_new, xsl_new, hM.tx, hM.xp, hM.l3, xsub]; done) | (simp [-List.getD_eq_getElem?_getD, xE_setI, xsz_setI, xsl_setI, xtag_setI, xown_setI, xlen_setI, xE_setR, xsz_setR, xsl_setR, xtag_setR, xown_setR, xlen_setR, xE_setW, xsz_setW, xsl_setW, xtag_setW, xown_setW, xlen_setW, xi_setR, xi_setW, xr_setI, xr_setW, xww_setI, xww_setR, xi_setI, xr_setR, xww_setW, xE_new, xsz_new, xsl_new, hM.tx, hM.xp, hM.l3] <;> rfl)) (by simp [-List.getD_eq_getElem?_getD, xE_setI, xsz_setI, xsl_setI, xtag_setI, xown_setI, xlen_setI, xE_setR, xsz_setR, xsl_setR, xtag_setR, xown_setR, xlen_setR, xE_setW, xsz_setW, xsl_setW, xtag_setW, xown_setW, xlen_setW, xi_setR, xi_setW, xr_setI, xr_setW, xww_setI, xww_setR, xi_setI, xr_setR, xww_setW, xE_new, xsz_new, xsl_new, hM.tx, hM.xp, hM.l3]) ?_
  refine xw_iload_n (pc := 4) dX1_dropCase_4 1 rfl ?_
  refine xw_callV (pc := 5) (xr_V (as := [_]) ok_X2_isWork rfl (by decide) q1680 q1665 q1666 (by rw [hM.P.tag]; rfl) (by rw [hM.P.tag]; rfl) dX1_dropCase_5 rfl rfl (Nat.le_of_ble_eq_true rfl)) ((show XM M_X2_isWork (d + 79) [.ref p, .int (nI k)] g (xOne (some (.int (bI true))) g) from hF ▸ SP_X2_isWork hM.P.pl)) ?_
  refine xw_callU (pc := 8) (xr_S (as := [_]) ok_X1_checkIndex rfl (by decide) q1252 q1066 dX1_dropCase_8 rfl rfl (Nat.le_of_ble_eq_true rfl)) (SP_X1_checkIndex_T) ?_
  refine xw_aload_n (pc := 11) dX1_dropCase_11 0 rfl ?_
  refine xw_getS (b := p) (pc := 12) fd_X1_10 dX1_dropCase_12 (by first | assumption | (simp [-List.getD_eq_getElem?_getD, xE_setI, xsz_setI, xsl_setI, xtag_setI, xown_setI, xlen_setI, xE_setR, xsz_setR, xsl_setR, xtag_setR, xown_setR, xlen_setR, xE_setW, xsz_setW, xsl_setW, xtag_setW, xown_setW, xlen_setW, xi_setR, xi_setW, xr_setI, xr_setW, xww_setI, xww_setR, xi_setI, xr_setR, xww_setW, xE_new, xsz_new, xsl_new, hM.tx, hM.xp, hM.l3, xsub]; done) | (simp [-List.getD_eq_getElem?_getD, xE_setI, xsz_setI, xsl_setI, xtag_setI, xown_setI, xlen_setI, xE_setR, xsz_setR, xsl_setR, xtag_setR, xown_setR, xlen_setR, xE_setW, xsz_setW, xsl_setW, xtag_setW, xown_setW, xlen_setW, xi_setR, xi_setW, xr_setI, xr_setW, xww_setI, xww_setR, xi_setI, xr_setR, xww_setW, xE_new, xsz_new, xsl_new, hM.tx, hM.xp, hM.l3] <;> rfl)) (by simp [-List.getD_eq_getElem?_getD, xE_setI, xsz_setI, xsl_setI, xtag_setI, xown_setI, xlen_setI, xE_setR, xsz_setR, xsl_setR, xtag_setR, xown_setR, xlen_setR, xE_setW, xsz_setW, xsl_setW, xtag_setW, xown_setW, xlen_setW, xi_setR, xi_setW, xr_setI, xr_setW, xww_setI, xww_setR, xi_setI, xr_setR, xww_setW, xE_new, xsz_new, xsl_new, hM.tx, hM.xp, hM.l3]) ?_
  refine xw_callF (pc := 15) (xr_V (as := []) ok_X2_copy rfl (by decide) q902 q903 q904 (by rw [hM.P.tag]; rfl) (by rw [hM.P.tag]; rfl) dX1_dropCase_15 rfl rfl (Nat.le_of_ble_eq_true rfl)) (SP_X2_copy (d := d + 70) hM.P) ?_
  intro g15 hc15 hm15
  obtain ⟨Zq, hPq, FC⟩ := hc15
  have hp0 := hM.P.p0
  have hlp := hM.P.lt
  have hxl : x < xsz g := xlt (by rw [hM.tx]; decide)
  have nxC : ¬ oP (xsz g) (xown g x) := by rw [hM.ox]; unfold oP; omega
  have oKC : oKeep (oP (xsz g)) := by unfold oKeep oP; omega
  have hP2 := hM.P.fr FC (fun o h1 h2 => by unfold oP at h1 h2; omega) (by unfold oP; omega)
  have hMc := hM.fr FC oKC hP2
  have hDc := hPa.2.1.fr FC (by unfold oP; omega)
  have cf2 : xr g15 p 2 = some (aL Z 4) := hP2.f2
  have tpC : xtag g15 p = 2 := hP2.tag
  have txC : xtag g15 x = 1 := hMc.tx
  have xpC : xr g15 x 0 = some p := hMc.xp
  refine xw_astore_n (l' := [(2, _), (0, _), (1, _)]) (pc := 18) dX1_dropCase_18 rfl (by decide) rfl ?_
  refine xw_aload_n (pc := 19) dX1_dropCase_19 1 rfl ?_
  refine xw_getS (b := p) (pc := 20) fd_X1_10 dX1_dropCase_20 (by first | assumption | (simp [-List.getD_eq_getElem?_getD, xE_setI, xsz_setI, xsl_setI, xtag_setI, xown_setI, xlen_setI, xE_setR, xsz_setR, xsl_setR, xtag_setR, xown_setR, xlen_setR, xE_setW, xsz_setW, xsl_setW, xtag_setW, xown_setW, xlen_setW, xi_setR, xi_setW, xr_setI, xr_setW, xww_setI, xww_setR, xi_setI, xr_setR, xww_setW, xE_new, xsz_new, xsl_new, hM.tx, hM.xp, hM.l3, cf2, tpC, txC, xpC, xsub]; done) | (simp [-List.getD_eq_getElem?_getD, xE_setI, xsz_setI, xsl_setI, xtag_setI, xown_setI, xlen_setI, xE_setR, xsz_setR, xsl_setR, xtag_setR, xown_setR, xlen_setR, xE_setW, xsz_setW, xsl_setW, xtag_setW, xown_setW, xlen_setW, xi_setR, xi_setW, xr_setI, xr_setW, xww_setI, xww_setR, xi_setI, xr_setR, xww_setW, xE_new, xsz_new, xsl_new, hM.tx, hM.xp, hM.l3, cf2, tpC, txC, xpC] <;> rfl)) (by simp [-List.getD_eq_getElem?_getD, xE_setI, xsz_setI, xsl_setI, xtag_setI, xown_setI, xlen_setI, xE_setR, xsz_setR, xsl_setR, xtag_setR, xown_setR, xlen_setR, xE_setW, xsz_setW, xsl_setW, xtag_setW, xown_setW, xlen_setW, xi_setR, xi_setW, xr_setI, xr_setW, xww_setI, xww_setR, xi_setI, xr_setR, xww_setW, xE_new, xsz_new, xsl_new, hM.tx, hM.xp, hM.l3, cf2, tpC, txC, xpC]) ?_
  refine xw_getS (b := (aL Z 4)) (pc := 23) fd_X1_374 dX1_dropCase_23 (by first | assumption | (simp [-List.getD_eq_getElem?_getD, xE_setI, xsz_setI, xsl_setI, xtag_setI, xown_setI, xlen_setI, xE_setR, xsz_setR, xsl_setR, xtag_setR, xown_setR, xlen_setR, xE_setW, xsz_setW, xsl_setW, xtag_setW, xown_setW, xlen_setW, xi_setR, xi_setW, xr_setI, xr_setW, xww_setI, xww_setR, xi_setI, xr_setR, xww_setW, xE_new, xsz_new, xsl_new, hM.tx, hM.xp, hM.l3, cf2, tpC, txC, xpC, xsub]; done) | (simp [-List.getD_eq_getElem?_getD, xE_setI, xsz_setI, xsl_setI, xtag_setI, xown_setI, xlen_setI, xE_setR, xsz_setR, xsl_setR, xtag_setR, xown_setR, xlen_setR, xE_setW, xsz_setW, xsl_setW, xtag_setW, xown_setW, xlen_setW, xi_setR, xi_setW, xr_setI, xr_setW, xww_setI, xww_setR, xi_setI, xr_setR, xww_setW, xE_new, xsz_new, xsl_new, hM.tx, hM.xp, hM.l3, cf2, tpC, txC, xpC] <;> rfl)) (by simp [-List.getD_eq_getElem?_getD, xE_setI, xsz_setI, xsl_setI, xtag_setI, xown_setI, xlen_setI, xE_setR, xsz_setR, xsl_setR, xtag_setR, xown_setR, xlen_setR, xE_setW, xsz_setW, xsl_setW, xtag_setW, xown_setW, xlen_setW, xi_setR, xi_setW, xr_setI, xr_setW, xww_setI, xww_setR, xi_setI, xr_setR, xww_setW, xE_new, xsz_new, xsl_new, hM.tx, hM.xp, hM.l3, cf2, tpC, txC, xpC]) ?_
  refine xw_iload_n (pc := 26) dX1_dropCase_26 2 rfl ?_
  refine xw_callF (pc := 27) (xr_V (as := [_]) ok_J2_remove rfl (by decide) q1448 q1449 q1450 (by first | (rw [tl9]; rfl) | (rw [hPN.l2.1]; rfl) | (rw [hP2n.l2.1]; rfl) | (rw [hP3.l2.1]; rfl) | (rw [hP2.l2.1]; rfl) | (rw [hP9.l2.1]; rfl)) (by first | (rw [tl9]; rfl) | (rw [hPN.l2.1]; rfl) | (rw [hP2n.l2.1]; rfl) | (rw [hP3.l2.1]; rfl) | (rw [hP2.l2.1]; rfl) | (rw [hP9.l2.1]; rfl)) dX1_dropCase_27 rfl rfl (Nat.le_of_ble_eq_true rfl)) (SP_J2_remove hP2.l2 (by omega) (fun i hi => xObj_W (hP2.wk (by omega)).1) k (by omega)) ?_
  intro g27 hc27 hm27
  have F2 : xFr (oP p) 0 g15 g27 := hc27.2.sub (m := 0) (fun o h1 => by unfold oEq at h1; unfold oP; omega) (Nat.le_refl _)
  have hP9 : xPol g27 p _ (dropUp (S 1) ww k) n rr (ww - 1) := hP2.dropW hc27.2 hk hc27.1
  have oKP : oKeep (oP p) := by unfold oKeep oP; omega
  have hM9 := hMc.fr (S' := fun _ => (dropUp (S 1) ww k)) F2 oKP hP9
  have hD9 := hDc.fr F2 (by unfold oP; omega)
  have hPq9 := hPq.fr F2 (fun o h1 h2 => by unfold oP at h1 h2; omega) (by unfold oP; omega)
  have nx9 : ¬ oP p (xown g15 x) := by rw [hMc.ox]; unfold oP; omega
  have hx29 : xr g27 x 2 = some dq := (F2.r' (FC.lt hxl) nx9).trans ((FC.r' hxl nxC).trans hPa.1)
  have tl9 : xtag g27 (aL Z 4) = 18 := hP9.l2.1
  have cf9 : xr g27 p 2 = some (aL Z 4) := hP9.f2
  have tp9 : xtag g27 p = 2 := hP9.tag
  have tx9 : xtag g27 x = 1 := hM9.tx
  have xp9 : xr g27 x 0 = some p := hM9.xp
  have hl9 : ((aW Z).eraseIdx k).length = ww - 1 := hP9.lw
  refine xw_pop (pc := 30) dX1_dropCase_30 rfl ?_
  refine xw_aload_n (pc := 31) dX1_dropCase_31 1 rfl ?_
  refine xw_aload_n (pc := 32) dX1_dropCase_32 0 rfl ?_
  refine xw_aload_n (pc := 33) dX1_dropCase_33 1 rfl ?_
  refine xw_getS (b := p) (pc := 34) fd_X1_10 dX1_dropCase_34 (by first | assumption | (simp [-List.getD_eq_getElem?_getD, xE_setI, xsz_setI, xsl_setI, xtag_setI, xown_setI, xlen_setI, xE_setR, xsz_setR, xsl_setR, xtag_setR, xown_setR, xlen_setR, xE_setW, xsz_setW, xsl_setW, xtag_setW, xown_setW, xlen_setW, xi_setR, xi_setW, xr_setI, xr_setW, xww_setI, xww_setR, xi_setI, xr_setR, xww_setW, xE_new, xsz_new, xsl_new, hM.tx, hM.xp, hM.l3, cf2, tpC, txC, xpC, cf9, tp9, tx9, xp9, xsub]; done) | (simp [-List.getD_eq_getElem?_getD, xE_setI, xsz_setI, xsl_setI, xtag_setI, xown_setI, xlen_setI, xE_setR, xsz_setR, xsl_setR, xtag_setR, xown_setR, xlen_setR, xE_setW, xsz_setW, xsl_setW, xtag_setW, xown_setW, xlen_setW, xi_setR, xi_setW, xr_setI, xr_setW, xww_setI, xww_setR, xi_setI, xr_setR, xww_setW, xE_new, xsz_new, xsl_new, hM.tx, hM.xp, hM.l3, cf2, tpC, txC, xpC, cf9, tp9, tx9, xp9] <;> rfl)) (by simp [-List.getD_eq_getElem?_getD, xE_setI, xsz_setI, xsl_setI, xtag_setI, xown_setI, xlen_setI, xE_setR, xsz_setR, xsl_setR, xtag_setR, xown_setR, xlen_setR, xE_setW, xsz_setW, xsl_setW, xtag_setW, xown_setW, xlen_setW, xi_setR, xi_setW, xr_setI, xr_setW, xww_setI, xww_setR, xi_setI, xr_setR, xww_setW, xE_new, xsz_new, xsl_new, hM.tx, hM.xp, hM.l3, cf2, tpC, txC, xpC, cf9, tp9, tx9, xp9]) ?_
  refine xw_getS (b := (aL Z 4)) (pc := 37) fd_X1_374 dX1_dropCase_37 (by first | assumption | (simp [-List.getD_eq_getElem?_getD, xE_setI, xsz_setI, xsl_setI, xtag_setI, xown_setI, xlen_setI, xE_setR, xsz_setR, xsl_setR, xtag_setR, xown_setR, xlen_setR, xE_setW, xsz_setW, xsl_setW, xtag_setW, xown_setW, xlen_setW, xi_setR, xi_setW, xr_setI, xr_setW, xww_setI, xww_setR, xi_setI, xr_setR, xww_setW, xE_new, xsz_new, xsl_new, hM.tx, hM.xp, hM.l3, cf2, tpC, txC, xpC, cf9, tp9, tx9, xp9, xsub]; done) | (simp [-List.getD_eq_getElem?_getD, xE_setI, xsz_setI, xsl_setI, xtag_setI, xown_setI, xlen_setI, xE_setR, xsz_setR, xsl_setR, xtag_setR, xown_setR, xlen_setR, xE_setW, xsz_setW, xsl_setW, xtag_setW, xown_setW, xlen_setW, xi_setR, xi_setW, xr_setI, xr_setW, xww_setI, xww_setR, xi_setI, xr_setR, xww_setW, xE_new, xsz_new, xsl_new, hM.tx, hM.xp, hM.l3, cf2, tpC, txC, xpC, cf9, tp9, tx9, xp9] <;> rfl)) (by simp [-List.getD_eq_getElem?_getD, xE_setI, xsz_setI, xsl_setI, xtag_setI, xown_setI, xlen_setI, xE_setR, xsz_setR, xsl_setR, xtag_setR, xown_setR, xlen_setR, xE_setW, xsz_setW, xsl_setW, xtag_setW, xown_setW, xlen_setW, xi_setR, xi_setW, xr_setI, xr_setW, xww_setI, xww_setR, xi_setI, xr_setR, xww_setW, xE_new, xsz_new, xsl_new, hM.tx, hM.xp, hM.l3, cf2, tpC, txC, xpC, cf9, tp9, tx9, xp9]) ?_
  refine xw_callV (pc := 40) (xr_V (as := []) ok_J2_size rfl (by decide) q701 q702 q703 (by first | (rw [tl9]; rfl) | (rw [hPN.l2.1]; rfl) | (rw [hP2n.l2.1]; rfl) | (rw [hP3.l2.1]; rfl) | (rw [hP2.l2.1]; rfl) | (rw [hP9.l2.1]; rfl)) (by first | (rw [tl9]; rfl) | (rw [hPN.l2.1]; rfl) | (rw [hP2n.l2.1]; rfl) | (rw [hP3.l2.1]; rfl) | (rw [hP2.l2.1]; rfl) | (rw [hP9.l2.1]; rfl)) dX1_dropCase_40 rfl rfl (Nat.le_of_ble_eq_true rfl)) ((show XM M_J2_size (d + 79) [.ref (aL Z 4)] g27 (xOne (some (.int (nI (ww - 1)))) g27) from hl9 ▸ SP_J2_size hP9.l2)) ?_
  refine xw_callF (pc := 43) (xr_V (as := [_, _]) ok_X1_changed rfl (by decide) q1110 q1112 qs19 (by first | (rw [hM9.tx]; rfl) | (rw [hM.tx]; rfl)) (by first | (rw [hM9.tx]; rfl) | (rw [hM.tx]; rfl)) dX1_dropCase_43 rfl rfl (Nat.le_of_ble_eq_true rfl)) (SP_X1_changed hM9.tx hx29 hM9.ox hD9 hPa.2.2.2 hPq9.tag) ?_
  intro g43 hc43 hm43
  refine xw_iret (pc := 46) .int dX1_dropCase_46 rfl ?_ 
  exact ⟨rfl, _, _, _, hP9.fr hc43.2 (fun o h1 h2 => by unfold oP at h1; unfold oEq at h2; omega) (by unfold oEq; omega), Nat.le_refl _, ⟨_, _, _, _, hPq9.fr hc43.2 (fun o h1 h2 => by unfold oP at h1; unfold oEq at h2; omega) (by unfold oEq; omega)⟩, hc43.1.choose_spec, (((FC.sub (O' := oCh p (xsz g)) (fun o h1 => by unfold oP at h1; unfold oCh; omega) (Nat.le_refl _)).tr (F2.sub (fun o h1 => Or.inr (Or.inr (Or.inl h1))) (Nat.le_refl _))).tr (hc43.2.sub (fun o h1 => Or.inr (Or.inl h1)) (Nat.le_refl _))).sub (fun _ h => h) (by omega)⟩

theorem SP_X1_work_F {d : Nat} {g : xG} {x p lk fa ka la n rr ww : Nat} {Z : xAd} {S : xMS} (hM : xMn g x p lk fa ka la Z S n rr ww) {v a b c : Int32} (hv : ¬ inR v (nI 0) (nI n - nI 1) = true) : XM M_X1_work (d + 80) [.ref x, .int v, .int a, .int b, .int c] g (xThr (xsz g) (xExc g 23)) := by
  have hlc := hM.P.lc
  have n10 := hM.P.wf.n10
  have hlw := hM.P.lw
  have w12 := hM.P.wf.w12
  have hsF : inR v (nI 0) (nI (aC Z).length - nI 1) = false := by rw [hlc]; exact Bool.eq_false_iff.mpr hv
  refine xm_of (by decide +kernel) (Nat.le_of_ble_eq_true rfl) ?_
  show XW _ _ 0 [(0, _), (1, _), (2, _), (3, _), (4, _)] [] _ _
  refine xw_aload_n (pc := 0) dX1_work_0 0 rfl ?_
  refine xw_getS (b := p) (pc := 1) fd_X1_10 dX1_work_1 (by first | assumption | (simp [-List.getD_eq_getElem?_getD, xE_setI, xsz_setI, xsl_setI, xtag_setI, xown_setI, xlen_setI, xE_setR, xsz_setR, xsl_setR, xtag_setR, xown_setR, xlen_setR, xE_setW, xsz_setW, xsl_setW, xtag_setW, xown_setW, xlen_setW, xi_setR, xi_setW, xr_setI, xr_setW, xww_setI, xww_setR, xi_setI, xr_setR, xww_setW, xE_new, xsz_new, xsl_new, hM.tx, hM.xp, hM.l3, xsub]; done) | (simp [-List.getD_eq_getElem?_getD, xE_setI, xsz_setI, xsl_setI, xtag_setI, xown_setI, xlen_setI, xE_setR, xsz_setR, xsl_setR, xtag_setR, xown_setR, xlen_setR, xE_setW, xsz_setW, xsl_setW, xtag_setW, xown_setW, xlen_setW, xi_setR, xi_setW, xr_setI, xr_setW, xww_setI, xww_setR, xi_setI, xr_setR, xww_setW, xE_new, xsz_new, xsl_new, hM.tx, hM.xp, hM.l3] <;> rfl)) (by simp [-List.getD_eq_getElem?_getD, xE_setI, xsz_setI, xsl_setI, xtag_setI, xown_setI, xlen_setI, xE_setR, xsz_setR, xsl_setR, xtag_setR, xown_setR, xlen_setR, xE_setW, xsz_setW, xsl_setW, xtag_setW, xown_setW, xlen_setW, xi_setR, xi_setW, xr_setI, xr_setW, xww_setI, xww_setR, xi_setI, xr_setR, xww_setW, xE_new, xsz_new, xsl_new, hM.tx, hM.xp, hM.l3]) ?_
  refine xw_iload_n (pc := 4) dX1_work_4 1 rfl ?_
  refine xw_callV (pc := 5) (xr_V (as := [_]) ok_X2_isScope rfl (by decide) q1251 q1061 q1062 (by rw [hM.P.tag]; rfl) (by rw [hM.P.tag]; rfl) dX1_work_5 rfl rfl (Nat.le_of_ble_eq_true rfl)) ((show XM M_X2_isScope (d + 79) [.ref p, .int v] g (xOne (some (.int (bI false))) g) from hsF ▸ SP_X2_isScope hM.P.pl)) ?_
  refine xw_callX (pc := 8) (xr_S (as := [_]) ok_X1_checkIndex rfl (by decide) q1252 q1066 dX1_work_8 rfl rfl (Nat.le_of_ble_eq_true rfl)) (SP_X1_checkIndex_F) ?_
  exact xx_out0 rfl (by rw [xExc_tag]; decide) (by rw [xExc_tag]; decide) (by rw [xExc_own]; decide) ⟨rfl, rfl⟩

theorem SP_X1_work_F2 {d : Nat} {g : xG} {x p lk fa ka la n rr ww : Nat} {Z : xAd} {S : xMS} (hM : xMn g x p lk fa ka la Z S n rr ww) {k : Nat} {day feats e : Int32} (hk : k < n) (hx : (isCs day feats && inR e (nI 0) (nI 2)) = false) : XM M_X1_work (d + 80) [.ref x, .int (nI k), .int day, .int feats, .int e] g (xThr (xsz g) (xExc g 22)) := by
  have hlc := hM.P.lc
  have n10 := hM.P.wf.n10
  have hlw := hM.P.lw
  have w12 := hM.P.wf.w12
  have hsT : inR (nI k) (nI 0) (nI (aC Z).length - nI 1) = true := inR_k (by omega) (by omega)
  unfold isCs at hx
  refine xm_of (by decide +kernel) (Nat.le_of_ble_eq_true rfl) ?_
  show XW _ _ 0 [(0, _), (1, _), (2, _), (3, _), (4, _)] [] _ _
  refine xw_aload_n (pc := 0) dX1_work_0 0 rfl ?_
  refine xw_getS (b := p) (pc := 1) fd_X1_10 dX1_work_1 (by first | assumption | (simp [-List.getD_eq_getElem?_getD, xE_setI, xsz_setI, xsl_setI, xtag_setI, xown_setI, xlen_setI, xE_setR, xsz_setR, xsl_setR, xtag_setR, xown_setR, xlen_setR, xE_setW, xsz_setW, xsl_setW, xtag_setW, xown_setW, xlen_setW, xi_setR, xi_setW, xr_setI, xr_setW, xww_setI, xww_setR, xi_setI, xr_setR, xww_setW, xE_new, xsz_new, xsl_new, hM.tx, hM.xp, hM.l3, xsub]; done) | (simp [-List.getD_eq_getElem?_getD, xE_setI, xsz_setI, xsl_setI, xtag_setI, xown_setI, xlen_setI, xE_setR, xsz_setR, xsl_setR, xtag_setR, xown_setR, xlen_setR, xE_setW, xsz_setW, xsl_setW, xtag_setW, xown_setW, xlen_setW, xi_setR, xi_setW, xr_setI, xr_setW, xww_setI, xww_setR, xi_setI, xr_setR, xww_setW, xE_new, xsz_new, xsl_new, hM.tx, hM.xp, hM.l3] <;> rfl)) (by simp [-List.getD_eq_getElem?_getD, xE_setI, xsz_setI, xsl_setI, xtag_setI, xown_setI, xlen_setI, xE_setR, xsz_setR, xsl_setR, xtag_setR, xown_setR, xlen_setR, xE_setW, xsz_setW, xsl_setW, xtag_setW, xown_setW, xlen_setW, xi_setR, xi_setW, xr_setI, xr_setW, xww_setI, xww_setR, xi_setI, xr_setR, xww_setW, xE_new, xsz_new, xsl_new, hM.tx, hM.xp, hM.l3]) ?_
  refine xw_iload_n (pc := 4) dX1_work_4 1 rfl ?_
  refine xw_callV (pc := 5) (xr_V (as := [_]) ok_X2_isScope rfl (by decide) q1251 q1061 q1062 (by rw [hM.P.tag]; rfl) (by rw [hM.P.tag]; rfl) dX1_work_5 rfl rfl (Nat.le_of_ble_eq_true rfl)) ((show XM M_X2_isScope (d + 79) [.ref p, .int (nI k)] g (xOne (some (.int (bI true))) g) from hsT ▸ SP_X2_isScope hM.P.pl)) ?_
  refine xw_callU (pc := 8) (xr_S (as := [_]) ok_X1_checkIndex rfl (by decide) q1252 q1066 dX1_work_8 rfl rfl (Nat.le_of_ble_eq_true rfl)) (SP_X1_checkIndex_T) ?_
  refine xw_iload_n (pc := 11) dX1_work_11 2 rfl ?_
  refine xw_callV (pc := 12) (xr_S (as := [_]) ok_X1_isDay rfl (by decide) q1265 q1266 dX1_work_12 rfl rfl (Nat.le_of_ble_eq_true rfl)) (SP_X1_isDay (v := day)) ?_
  refine xw_if_eq (pc := 15) 39 dX1_work_15 rfl (fun hb15 => ?_) (fun hb15 => ?_)
  · replace hb15 := bI_0.mp hb15
    refine xw_iconst (v := nI 0) (pc := 39) dX1_work_39 rfl ?_
    refine xw_callX (pc := 40) (xr_S (as := [_]) ok_X1_check rfl (by decide) q1181 q1182 dX1_work_40 rfl rfl (Nat.le_of_ble_eq_true rfl)) (SP_X1_check_F) ?_
    exact xx_out0 rfl (by rw [xExc_tag]; decide) (by rw [xExc_tag]; decide) (by rw [xExc_own]; decide) ⟨rfl, rfl⟩
  · replace hb15 := bI_n0.mp hb15
    refine xw_iload_n (pc := 18) dX1_work_18 3 rfl ?_
    refine xw_callV (pc := 19) (xr_S (as := [_]) ok_X1_areFeatures rfl (by decide) q1516 q1517 dX1_work_19 rfl rfl (Nat.le_of_ble_eq_true rfl)) (SP_X1_areFeatures (v := feats)) ?_
    refine xw_if_eq (pc := 22) 39 dX1_work_22 rfl (fun hb22 => ?_) (fun hb22 => ?_)
    · replace hb22 := bI_0.mp hb22
      refine xw_iconst (v := nI 0) (pc := 39) dX1_work_39 rfl ?_
      refine xw_callX (pc := 40) (xr_S (as := [_]) ok_X1_check rfl (by decide) q1181 q1182 dX1_work_40 rfl rfl (Nat.le_of_ble_eq_true rfl)) (SP_X1_check_F) ?_
      exact xx_out0 rfl (by rw [xExc_tag]; decide) (by rw [xExc_tag]; decide) (by rw [xExc_own]; decide) ⟨rfl, rfl⟩
    · replace hb22 := bI_n0.mp hb22
      refine xw_iload (pc := 25) dX1_work_25 4 rfl ?_
      refine xw_iconst (v := nI 0) (pc := 27) dX1_work_27 rfl ?_
      refine xw_iconst (v := nI 2) (pc := 28) dX1_work_28 rfl ?_
      refine xw_callV (pc := 29) (xr_S (as := [_, _, _]) ok_X1_isIn rfl (by decide) q1180 q784 dX1_work_29 rfl rfl (Nat.le_of_ble_eq_true rfl)) (SP_X1_isIn (v := e) (lo := nI 0) (hi := nI 2)) ?_
      refine xw_if_eq (pc := 32) 39 dX1_work_32 rfl (fun hb32 => ?_) (fun hb32 => ?_)
      rotate_left
      · exfalso
        replace hb32 := bI_n0.mp hb32
        rw [hb15, hb22, hb32] at hx
        exact absurd hx (by decide)
      replace hb32 := bI_0.mp hb32
      refine xw_iconst (v := nI 0) (pc := 39) dX1_work_39 rfl ?_
      refine xw_callX (pc := 40) (xr_S (as := [_]) ok_X1_check rfl (by decide) q1181 q1182 dX1_work_40 rfl rfl (Nat.le_of_ble_eq_true rfl)) (SP_X1_check_F) ?_
      exact xx_out0 rfl (by rw [xExc_tag]; decide) (by rw [xExc_tag]; decide) (by rw [xExc_own]; decide) ⟨rfl, rfl⟩

theorem tl_X1_work {d : Nat} {g g0 : xG} {wq N : Nat} {x p lk fa ka la n rr ww : Nat} {Z : xAd} {S : xMS} (hM : xMn g x p lk fa ka la Z S n rr ww) {dq da h : Nat} {ps : List Nat} (hPa : xr g x 2 = some dq ∧ xAD g 7 dq da h ps ∧ True ∧ ps.length ≤ 8) {k a f q : Nat} (hk : k < n) (ha : a < 1000) (hf : f < 1000000) (hq : q < 3) {v : Nat × Int32} (hw12 : ww < 12) (hw : xWy g wq v) (hv : v.1 = 0) (F0 : xFr (oEq 5) N g0 g) (hN0 : N ≤ 90) : XW M_X1_work (d + 80) 77 [(0, .ref x), (1, .int (nI k)), (2, .int (nI a)), (3, .int (nI f)), (4, .int (nI q))] [.ref wq, .ref x] g (xVal (.int (nI ww)) (xChd g0 p dq da (S 1) ps (wkUp (S 1) ww (nI k) (nI a) (nI f) (nI q)) n rr (ww + 1))) := by
  have hz : xsz g0 ≤ xsz g := F0.le
  have hlw := hM.P.lw
  refine xw_callU (pc := 77) (xr_V (as := [_]) ok_X1_refuse rfl (by decide) q1302 q1304 qs22 (by first | (rw [hM9.tx]; rfl) | (rw [hM.tx]; rfl)) (by first | (rw [hM9.tx]; rfl) | (rw [hM.tx]; rfl)) dX1_work_77 rfl rfl (Nat.le_of_ble_eq_true rfl)) (SP_X1_refuse_N hw hv) ?_
  refine xw_aload_n (pc := 80) dX1_work_80 0 rfl ?_
  refine xw_getS (b := p) (pc := 81) fd_X1_10 dX1_work_81 (by first | assumption | (simp [-List.getD_eq_getElem?_getD, xE_setI, xsz_setI, xsl_setI, xtag_setI, xown_setI, xlen_setI, xE_setR, xsz_setR, xsl_setR, xtag_setR, xown_setR, xlen_setR, xE_setW, xsz_setW, xsl_setW, xtag_setW, xown_setW, xlen_setW, xi_setR, xi_setW, xr_setI, xr_setW, xww_setI, xww_setR, xi_setI, xr_setR, xww_setW, xE_new, xsz_new, xsl_new, hM.tx, hM.xp, hM.l3, xsub]; done) | (simp [-List.getD_eq_getElem?_getD, xE_setI, xsz_setI, xsl_setI, xtag_setI, xown_setI, xlen_setI, xE_setR, xsz_setR, xsl_setR, xtag_setR, xown_setR, xlen_setR, xE_setW, xsz_setW, xsl_setW, xtag_setW, xown_setW, xlen_setW, xi_setR, xi_setW, xr_setI, xr_setW, xww_setI, xww_setR, xi_setI, xr_setR, xww_setW, xE_new, xsz_new, xsl_new, hM.tx, hM.xp, hM.l3] <;> rfl)) (by simp [-List.getD_eq_getElem?_getD, xE_setI, xsz_setI, xsl_setI, xtag_setI, xown_setI, xlen_setI, xE_setR, xsz_setR, xsl_setR, xtag_setR, xown_setR, xlen_setR, xE_setW, xsz_setW, xsl_setW, xtag_setW, xown_setW, xlen_setW, xi_setR, xi_setW, xr_setI, xr_setW, xww_setI, xww_setR, xi_setI, xr_setR, xww_setW, xE_new, xsz_new, xsl_new, hM.tx, hM.xp, hM.l3]) ?_
  refine xw_callF (pc := 84) (xr_V (as := []) ok_X2_copy rfl (by decide) q902 q903 q904 (by rw [hM.P.tag]; rfl) (by rw [hM.P.tag]; rfl) dX1_work_84 rfl rfl (Nat.le_of_ble_eq_true rfl)) (SP_X2_copy (d := d + 70) hM.P) ?_
  intro g84 hc84 hm84
  obtain ⟨Zq, hPq, FC⟩ := hc84
  have hp0 := hM.P.p0
  have hlp := hM.P.lt
  have hxl : x < xsz g := xlt (by rw [hM.tx]; decide)
  have nxC : ¬ oP (xsz g) (xown g x) := by rw [hM.ox]; unfold oP; omega
  have oKC : oKeep (oP (xsz g)) := by unfold oKeep oP; omega
  have hP2 := hM.P.fr FC (fun o h1 h2 => by unfold oP at h1 h2; omega) (by unfold oP; omega)
  have hMc := hM.fr FC oKC hP2
  have hDc := hPa.2.1.fr FC (by unfold oP; omega)
  have cf2 : xr g84 p 2 = some (aL Z 4) := hP2.f2
  have tpC : xtag g84 p = 2 := hP2.tag
  have txC : xtag g84 x = 1 := hMc.tx
  have xpC : xr g84 x 0 = some p := hMc.xp
  obtain ⟨aE, haE⟩ := effO_some (g := g84) (v := nI q) (nI_pos (by omega)) (Or.inr ⟨q, hq, rfl⟩)
  refine xw_astore (l' := [(5, _), (0, _), (1, _), (2, _), (3, _), (4, _)]) (pc := 87) dX1_work_87 (by decide) rfl ?_
  refine xw_aload_n (pc := 89) dX1_work_89 1 rfl ?_
  refine xw_getS (b := p) (pc := 90) fd_X1_10 dX1_work_90 (by first | assumption | (simp [-List.getD_eq_getElem?_getD, xE_setI, xsz_setI, xsl_setI, xtag_setI, xown_setI, xlen_setI, xE_setR, xsz_setR, xsl_setR, xtag_setR, xown_setR, xlen_setR, xE_setW, xsz_setW, xsl_setW, xtag_setW, xown_setW, xlen_setW, xi_setR, xi_setW, xr_setI, xr_setW, xww_setI, xww_setR, xi_setI, xr_setR, xww_setW, xE_new, xsz_new, xsl_new, hM.tx, hM.xp, hM.l3, cf2, tpC, txC, xpC, xsub]; done) | (simp [-List.getD_eq_getElem?_getD, xE_setI, xsz_setI, xsl_setI, xtag_setI, xown_setI, xlen_setI, xE_setR, xsz_setR, xsl_setR, xtag_setR, xown_setR, xlen_setR, xE_setW, xsz_setW, xsl_setW, xtag_setW, xown_setW, xlen_setW, xi_setR, xi_setW, xr_setI, xr_setW, xww_setI, xww_setR, xi_setI, xr_setR, xww_setW, xE_new, xsz_new, xsl_new, hM.tx, hM.xp, hM.l3, cf2, tpC, txC, xpC] <;> rfl)) (by simp [-List.getD_eq_getElem?_getD, xE_setI, xsz_setI, xsl_setI, xtag_setI, xown_setI, xlen_setI, xE_setR, xsz_setR, xsl_setR, xtag_setR, xown_setR, xlen_setR, xE_setW, xsz_setW, xsl_setW, xtag_setW, xown_setW, xlen_setW, xi_setR, xi_setW, xr_setI, xr_setW, xww_setI, xww_setR, xi_setI, xr_setR, xww_setW, xE_new, xsz_new, xsl_new, hM.tx, hM.xp, hM.l3, cf2, tpC, txC, xpC]) ?_
  refine xw_getS (b := (aL Z 4)) (pc := 93) fd_X1_374 dX1_work_93 (by first | assumption | (simp [-List.getD_eq_getElem?_getD, xE_setI, xsz_setI, xsl_setI, xtag_setI, xown_setI, xlen_setI, xE_setR, xsz_setR, xsl_setR, xtag_setR, xown_setR, xlen_setR, xE_setW, xsz_setW, xsl_setW, xtag_setW, xown_setW, xlen_setW, xi_setR, xi_setW, xr_setI, xr_setW, xww_setI, xww_setR, xi_setI, xr_setR, xww_setW, xE_new, xsz_new, xsl_new, hM.tx, hM.xp, hM.l3, cf2, tpC, txC, xpC, xsub]; done) | (simp [-List.getD_eq_getElem?_getD, xE_setI, xsz_setI, xsl_setI, xtag_setI, xown_setI, xlen_setI, xE_setR, xsz_setR, xsl_setR, xtag_setR, xown_setR, xlen_setR, xE_setW, xsz_setW, xsl_setW, xtag_setW, xown_setW, xlen_setW, xi_setR, xi_setW, xr_setI, xr_setW, xww_setI, xww_setR, xi_setI, xr_setR, xww_setW, xE_new, xsz_new, xsl_new, hM.tx, hM.xp, hM.l3, cf2, tpC, txC, xpC] <;> rfl)) (by simp [-List.getD_eq_getElem?_getD, xE_setI, xsz_setI, xsl_setI, xtag_setI, xown_setI, xlen_setI, xE_setR, xsz_setR, xsl_setR, xtag_setR, xown_setR, xlen_setR, xE_setW, xsz_setW, xsl_setW, xtag_setW, xown_setW, xlen_setW, xi_setR, xi_setW, xr_setI, xr_setW, xww_setI, xww_setR, xi_setI, xr_setR, xww_setW, xE_new, xsz_new, xsl_new, hM.tx, hM.xp, hM.l3, cf2, tpC, txC, xpC]) ?_
  refine xw_new (t := 14) (pc := 96) 2 dX1_work_96 rfl (by decide) (by first | decide | assumption | omega) q719 q1631 q135 ?_
  refine xw_at (a := (xsz g84)) (by rfl) ?_
  refine xw_dup (pc := 99) dX1_work_99 rfl ?_
  refine xw_iload_n (pc := 100) dX1_work_100 2 rfl ?_
  refine xw_iload_n (pc := 101) dX1_work_101 3 rfl ?_
  refine xw_iload_n (pc := 102) dX1_work_102 4 rfl ?_
  refine xw_iload (pc := 103) dX1_work_103 5 rfl ?_
  refine xw_callV (pc := 105) (xr_S (as := [_]) ok_X1_effectOf rfl (by decide) q1207 q1208 dX1_work_105 rfl rfl (Nat.le_of_ble_eq_true rfl)) ((show XM M_X1_effectOf (d + 79) [.int (nI q)] (xNew g84 (xBlank 14 2 4) 4) (xOne (some (.ref aE)) (xNew g84 (xBlank 14 2 4) 4)) from by have h9 := SP_X1_effectOf (d := d + 79) (g := (xNew g84 (xBlank 14 2 4) 4)) (v := nI q); rw [show effO (xNew g84 (xBlank 14 2 4) 4) (nI q) = some aE from haE] at h9; exact h9)) ?_
  refine xw_callU (pc := 108) (xr_I (as := [_, _, _, _]) ok_X17_init rfl (by decide) q1632 q1633 rfl rfl dX1_work_108 rfl rfl (Nat.le_of_ble_eq_true rfl)) (SP_X17_init (e := some aE) (by rw [xtag_newS rfl]; rfl) (by rw [xown_newS rfl]; show (2 : Nat) ≠ 0; decide)) ?_
  have FNo : xFr oNo (0 + 5) g84 (xsetR (xsetI (xsetI (xsetI (xNew g84 (xBlank 14 2 4) 4) (xsz g84) 0 (nI k)) (xsz g84) 1 (nI a)) (xsz g84) 2 (nI f)) (xsz g84) 3 (some aE)) := (((((xFr.rf (n := 0)).nw (c := xBlank 14 2 4) (k := 4)).si (Or.inl (Nat.le_refl _))).si (Or.inl (Nat.le_refl _))).si (Or.inl (Nat.le_refl _))).sr (Or.inl (Nat.le_refl _))
  have hP3 := hP2.fr FNo (fun o _ h => h) (fun h => h)
  have t0 : xtag (xNew g84 (xBlank 14 2 4) 4) (xsz g84) = 14 := by rw [xtag_newS rfl]; rfl
  have t00 : xtag (xNew g84 (xBlank 14 2 4) 4) (xsz g84) ≠ 0 := by rw [t0]; decide
  have hN1 : xtag (xsetR (xsetI (xsetI (xsetI (xNew g84 (xBlank 14 2 4) 4) (xsz g84) 0 (nI k)) (xsz g84) 1 (nI a)) (xsz g84) 2 (nI f)) (xsz g84) 3 (some aE)) (xsz g84) = 14 := by simp only [xtag_setI, xtag_setR]; exact t0
  have hN2 : xown (xsetR (xsetI (xsetI (xsetI (xNew g84 (xBlank 14 2 4) 4) (xsz g84) 0 (nI k)) (xsz g84) 1 (nI a)) (xsz g84) 2 (nI f)) (xsz g84) 3 (some aE)) (xsz g84) = 2 := by simp only [xown_setI, xown_setR]; rw [xown_newS rfl]; rfl
  have hN3 : xi (xsetR (xsetI (xsetI (xsetI (xNew g84 (xBlank 14 2 4) 4) (xsz g84) 0 (nI k)) (xsz g84) 1 (nI a)) (xsz g84) 2 (nI f)) (xsz g84) 3 (some aE)) (xsz g84) 0 = nI k := by rw [xi_setR, xi_setIK (by decide), xi_setIK (by decide), xi_setIS t00]
  have hN4 : xi (xsetR (xsetI (xsetI (xsetI (xNew g84 (xBlank 14 2 4) 4) (xsz g84) 0 (nI k)) (xsz g84) 1 (nI a)) (xsz g84) 2 (nI f)) (xsz g84) 3 (some aE)) (xsz g84) 1 = nI a := by rw [xi_setR, xi_setIK (by decide), xi_setIS (by rw [xtag_setI]; exact t00)]
  have hN5 : xi (xsetR (xsetI (xsetI (xsetI (xNew g84 (xBlank 14 2 4) 4) (xsz g84) 0 (nI k)) (xsz g84) 1 (nI a)) (xsz g84) 2 (nI f)) (xsz g84) 3 (some aE)) (xsz g84) 2 = nI f := by rw [xi_setR, xi_setIS (by rw [xtag_setI, xtag_setI]; exact t00)]
  have hN6 : xr (xsetR (xsetI (xsetI (xsetI (xNew g84 (xBlank 14 2 4) 4) (xsz g84) 0 (nI k)) (xsz g84) 1 (nI a)) (xsz g84) 2 (nI f)) (xsz g84) 3 (some aE)) (xsz g84) 3 = some aE := by rw [xr_setRS (by simp only [xtag_setI]; exact t00)]
  refine xw_callF (pc := 111) (xr_V (as := [_]) ok_J2_add rfl (by decide) q1109 q529 q530 (by first | (rw [tl9]; rfl) | (rw [hPN.l2.1]; rfl) | (rw [hP2n.l2.1]; rfl) | (rw [hP3.l2.1]; rfl) | (rw [hP2.l2.1]; rfl) | (rw [hP9.l2.1]; rfl)) (by first | (rw [tl9]; rfl) | (rw [hPN.l2.1]; rfl) | (rw [hP2n.l2.1]; rfl) | (rw [hP3.l2.1]; rfl) | (rw [hP2.l2.1]; rfl) | (rw [hP9.l2.1]; rfl)) dX1_work_111 rfl rfl (Nat.le_of_ble_eq_true rfl)) (SP_J2_addF hP3.l2 (by omega) (xObj_W hN1) (by have := hP3.c2; omega)) ?_
  intro g111 hc111 hm111
  have F2 : xFr (oP p) 5 g84 g111 := (FNo.sub (m := 5) (fun o h1 => absurd h1 (fun z => z)) (by decide)).tr (hc111.2.sub (m := 0) (fun o h1 => by unfold oEq at h1; unfold oP; omega) (Nat.le_refl _))
  have hNl : xsz g84 < xsz (xsetR (xsetI (xsetI (xsetI (xNew g84 (xBlank 14 2 4) 4) (xsz g84) 0 (nI k)) (xsz g84) 1 (nI a)) (xsz g84) 2 (nI f)) (xsz g84) 3 (some aE)) := xlt (by rw [hN1]; decide)
  have hNo : ¬ oEq (1000 * p + 3) (xown (xsetR (xsetI (xsetI (xsetI (xNew g84 (xBlank 14 2 4) 4) (xsz g84) 0 (nI k)) (xsz g84) 1 (nI a)) (xsz g84) 2 (nI f)) (xsz g84) 3 (some aE)) (xsz g84)) := by rw [hN2]; unfold oEq; omega
  have hP9 : xPol g111 p _ (wkUp (S 1) ww (nI k) (nI a) (nI f) (nI q)) n rr (ww + 1) := hP3.addW hc111.2 hw12 hc111.1 hk ha hf hq ⟨(hc111.2.tag hNl).trans hN1, (hc111.2.own hNl).trans hN2, (hc111.2.i' hNl hNo).trans hN3, (hc111.2.i' hNl hNo).trans hN4, (hc111.2.i' hNl hNo).trans hN5, (hc111.2.r' hNl hNo).trans (hN6.trans (by rw [effO_fr hc111.2]; exact haE.symm))⟩
  have oKP : oKeep (oP p) := by unfold oKeep oP; omega
  have hM9 := hMc.fr (S' := fun _ => (wkUp (S 1) ww (nI k) (nI a) (nI f) (nI q))) F2 oKP hP9
  have hD9 := hDc.fr F2 (by unfold oP; omega)
  have hPq9 := hPq.fr F2 (fun o h1 h2 => by unfold oP at h1 h2; omega) (by unfold oP; omega)
  have nx9 : ¬ oP p (xown g84 x) := by rw [hMc.ox]; unfold oP; omega
  have hx29 : xr g111 x 2 = some dq := (F2.r' (FC.lt hxl) nx9).trans ((FC.r' hxl nxC).trans hPa.1)
  have tl9 : xtag g111 (aL Z 4) = 18 := hP9.l2.1
  have cf9 : xr g111 p 2 = some (aL Z 4) := hP9.f2
  have tp9 : xtag g111 p = 2 := hP9.tag
  have tx9 : xtag g111 x = 1 := hM9.tx
  have xp9 : xr g111 x 0 = some p := hM9.xp
  have hl9 : (aW Z ++ [xsz g84]).length = ww + 1 := hP9.lw
  refine xw_pop (pc := 114) dX1_work_114 rfl ?_
  refine xw_aload_n (pc := 115) dX1_work_115 1 rfl ?_
  refine xw_aload (pc := 116) dX1_work_116 0 rfl ?_
  refine xw_aload_n (pc := 118) dX1_work_118 1 rfl ?_
  refine xw_getS (b := p) (pc := 119) fd_X1_10 dX1_work_119 (by first | assumption | (simp [-List.getD_eq_getElem?_getD, xE_setI, xsz_setI, xsl_setI, xtag_setI, xown_setI, xlen_setI, xE_setR, xsz_setR, xsl_setR, xtag_setR, xown_setR, xlen_setR, xE_setW, xsz_setW, xsl_setW, xtag_setW, xown_setW, xlen_setW, xi_setR, xi_setW, xr_setI, xr_setW, xww_setI, xww_setR, xi_setI, xr_setR, xww_setW, xE_new, xsz_new, xsl_new, hM.tx, hM.xp, hM.l3, cf2, tpC, txC, xpC, cf9, tp9, tx9, xp9, xsub]; done) | (simp [-List.getD_eq_getElem?_getD, xE_setI, xsz_setI, xsl_setI, xtag_setI, xown_setI, xlen_setI, xE_setR, xsz_setR, xsl_setR, xtag_setR, xown_setR, xlen_setR, xE_setW, xsz_setW, xsl_setW, xtag_setW, xown_setW, xlen_setW, xi_setR, xi_setW, xr_setI, xr_setW, xww_setI, xww_setR, xi_setI, xr_setR, xww_setW, xE_new, xsz_new, xsl_new, hM.tx, hM.xp, hM.l3, cf2, tpC, txC, xpC, cf9, tp9, tx9, xp9] <;> rfl)) (by simp [-List.getD_eq_getElem?_getD, xE_setI, xsz_setI, xsl_setI, xtag_setI, xown_setI, xlen_setI, xE_setR, xsz_setR, xsl_setR, xtag_setR, xown_setR, xlen_setR, xE_setW, xsz_setW, xsl_setW, xtag_setW, xown_setW, xlen_setW, xi_setR, xi_setW, xr_setI, xr_setW, xww_setI, xww_setR, xi_setI, xr_setR, xww_setW, xE_new, xsz_new, xsl_new, hM.tx, hM.xp, hM.l3, cf2, tpC, txC, xpC, cf9, tp9, tx9, xp9]) ?_
  refine xw_getS (b := (aL Z 4)) (pc := 122) fd_X1_374 dX1_work_122 (by first | assumption | (simp [-List.getD_eq_getElem?_getD, xE_setI, xsz_setI, xsl_setI, xtag_setI, xown_setI, xlen_setI, xE_setR, xsz_setR, xsl_setR, xtag_setR, xown_setR, xlen_setR, xE_setW, xsz_setW, xsl_setW, xtag_setW, xown_setW, xlen_setW, xi_setR, xi_setW, xr_setI, xr_setW, xww_setI, xww_setR, xi_setI, xr_setR, xww_setW, xE_new, xsz_new, xsl_new, hM.tx, hM.xp, hM.l3, cf2, tpC, txC, xpC, cf9, tp9, tx9, xp9, xsub]; done) | (simp [-List.getD_eq_getElem?_getD, xE_setI, xsz_setI, xsl_setI, xtag_setI, xown_setI, xlen_setI, xE_setR, xsz_setR, xsl_setR, xtag_setR, xown_setR, xlen_setR, xE_setW, xsz_setW, xsl_setW, xtag_setW, xown_setW, xlen_setW, xi_setR, xi_setW, xr_setI, xr_setW, xww_setI, xww_setR, xi_setI, xr_setR, xww_setW, xE_new, xsz_new, xsl_new, hM.tx, hM.xp, hM.l3, cf2, tpC, txC, xpC, cf9, tp9, tx9, xp9] <;> rfl)) (by simp [-List.getD_eq_getElem?_getD, xE_setI, xsz_setI, xsl_setI, xtag_setI, xown_setI, xlen_setI, xE_setR, xsz_setR, xsl_setR, xtag_setR, xown_setR, xlen_setR, xE_setW, xsz_setW, xsl_setW, xtag_setW, xown_setW, xlen_setW, xi_setR, xi_setW, xr_setI, xr_setW, xww_setI, xww_setR, xi_setI, xr_setR, xww_setW, xE_new, xsz_new, xsl_new, hM.tx, hM.xp, hM.l3, cf2, tpC, txC, xpC, cf9, tp9, tx9, xp9]) ?_
  refine xw_callV (pc := 125) (xr_V (as := []) ok_J2_size rfl (by decide) q701 q702 q703 (by first | (rw [tl9]; rfl) | (rw [hPN.l2.1]; rfl) | (rw [hP2n.l2.1]; rfl) | (rw [hP3.l2.1]; rfl) | (rw [hP2.l2.1]; rfl) | (rw [hP9.l2.1]; rfl)) (by first | (rw [tl9]; rfl) | (rw [hPN.l2.1]; rfl) | (rw [hP2n.l2.1]; rfl) | (rw [hP3.l2.1]; rfl) | (rw [hP2.l2.1]; rfl) | (rw [hP9.l2.1]; rfl)) dX1_work_125 rfl rfl (Nat.le_of_ble_eq_true rfl)) ((show XM M_J2_size (d + 79) [.ref (aL Z 4)] g111 (xOne (some (.int (nI (ww + 1)))) g111) from hl9 ▸ SP_J2_size hP9.l2)) ?_
  refine xw_iconst (v := nI 1) (pc := 128) dX1_work_128 rfl ?_
  refine xn_isub (pc := 129) dX1_work_129 (by omega) ?_
  refine xw_callF (pc := 130) (xr_V (as := [_, _]) ok_X1_changed rfl (by decide) q1110 q1112 qs19 (by first | (rw [hM9.tx]; rfl) | (rw [hM.tx]; rfl)) (by first | (rw [hM9.tx]; rfl) | (rw [hM.tx]; rfl)) dX1_work_130 rfl rfl (Nat.le_of_ble_eq_true rfl)) (SP_X1_changed hM9.tx hx29 hM9.ox hD9 hPa.2.2.2 hPq9.tag) ?_
  intro g130 hc130 hm130
  refine xw_iret (pc := 133) .int dX1_work_133 rfl ?_ 
  exact ⟨rfl, _, _, _, hP9.fr hc130.2 (fun o h1 h2 => by unfold oP at h1; unfold oEq at h2; omega) (by unfold oEq; omega), hz, ⟨_, _, _, _, hPq9.fr hc130.2 (fun o h1 h2 => by unfold oP at h1; unfold oEq at h2; omega) (by unfold oEq; omega)⟩, hc130.1.choose_spec, ((((F0.sub (O' := oCh p (xsz g0)) (fun o h1 => Or.inl h1) (Nat.le_refl _)).tr (FC.sub (fun o h1 => by unfold oP at h1; unfold oCh; omega) (Nat.le_refl _))).tr (F2.sub (fun o h1 => Or.inr (Or.inr (Or.inl h1))) (Nat.le_refl _))).tr (hc130.2.sub (fun o h1 => Or.inr (Or.inl h1)) (Nat.le_refl _))).sub (fun _ h => h) (by omega)⟩
/-- what bars a work -/
def workW (ww : Nat) : Nat × Int32 := if ww = 12 then (10, nI 0) else (0, nI 0)
theorem SP_X1_work {d : Nat} {g : xG} {x p lk fa ka la n rr ww : Nat} {Z : xAd} {S : xMS} (hM : xMn g x p lk fa ka la Z S n rr ww) {dq da h : Nat} {ps : List Nat} (hPa : xr g x 2 = some dq ∧ xAD g 7 dq da h ps ∧ True ∧ ps.length ≤ 8) {k a f q : Nat} (hk : k < n) (ha : a < 1000) (hf : f < 1000000) (hq : q < 3) (hw12 : ww < 12) : XM M_X1_work (d + 80) [.ref x, .int (nI k), .int (nI a), .int (nI f), .int (nI q)] g (xVal (.int (nI ww)) (xChd g p dq da (S 1) ps (wkUp (S 1) ww (nI k) (nI a) (nI f) (nI q)) n rr (ww + 1))) := by
  have hlc := hM.P.lc
  have n10 := hM.P.wf.n10
  have hlw := hM.P.lw
  have w12 := hM.P.wf.w12
  have hsT : inR (nI k) (nI 0) (nI (aC Z).length - nI 1) = true := inR_k (by omega) (by omega)
  have h0 : inR (nI a) (nI 0) (nI 999) = true := inR_nat' (by decide) (by omega)
  have h1 : inR (nI f) (nI 0) (nI 999999) = true := inR_nat' (by decide) (by omega)
  have h2 : inR (nI q) (nI 0) (nI 2) = true := inR_nat' (by decide) (by omega)
  have FN : xFr (oEq 5) 2 g (xNew g (xBlank 8 5 1) 1) := (xFr.rf (n := 0)).nw
  have p0 := hM.P.p0
  have hPN := hM.P.fr FN (fun o h1 h2 => by unfold oP at h1; unfold oEq at h2; omega) (by unfold oEq; omega)
  have oK5 : oKeep (oEq 5) := by unfold oKeep oEq; omega
  have hMN := hM.fr FN oK5 hPN
  have txN : xtag (xNew g (xBlank 8 5 1) 1) x = 1 := hMN.tx
  have xpN : xr (xNew g (xBlank 8 5 1) 1) x 0 = some p := hMN.xp
  have tpN : xtag (xNew g (xBlank 8 5 1) 1) p = 2 := hPN.tag
  have wpN : xr (xNew g (xBlank 8 5 1) 1) p 2 = some (aL Z 4) := hPN.f2
  refine xm_of (by decide +kernel) (Nat.le_of_ble_eq_true rfl) ?_
  show XW _ _ 0 [(0, _), (1, _), (2, _), (3, _), (4, _)] [] _ _
  refine xw_aload_n (pc := 0) dX1_work_0 0 rfl ?_
  refine xw_getS (b := p) (pc := 1) fd_X1_10 dX1_work_1 (by first | assumption | (simp [-List.getD_eq_getElem?_getD, xE_setI, xsz_setI, xsl_setI, xtag_setI, xown_setI, xlen_setI, xE_setR, xsz_setR, xsl_setR, xtag_setR, xown_setR, xlen_setR, xE_setW, xsz_setW, xsl_setW, xtag_setW, xown_setW, xlen_setW, xi_setR, xi_setW, xr_setI, xr_setW, xww_setI, xww_setR, xi_setI, xr_setR, xww_setW, xE_new, xsz_new, xsl_new, hM.tx, hM.xp, hM.l3, txN, xpN, tpN, wpN, xsub]; done) | (simp [-List.getD_eq_getElem?_getD, xE_setI, xsz_setI, xsl_setI, xtag_setI, xown_setI, xlen_setI, xE_setR, xsz_setR, xsl_setR, xtag_setR, xown_setR, xlen_setR, xE_setW, xsz_setW, xsl_setW, xtag_setW, xown_setW, xlen_setW, xi_setR, xi_setW, xr_setI, xr_setW, xww_setI, xww_setR, xi_setI, xr_setR, xww_setW, xE_new, xsz_new, xsl_new, hM.tx, hM.xp, hM.l3, txN, xpN, tpN, wpN] <;> rfl)) (by simp [-List.getD_eq_getElem?_getD, xE_setI, xsz_setI, xsl_setI, xtag_setI, xown_setI, xlen_setI, xE_setR, xsz_setR, xsl_setR, xtag_setR, xown_setR, xlen_setR, xE_setW, xsz_setW, xsl_setW, xtag_setW, xown_setW, xlen_setW, xi_setR, xi_setW, xr_setI, xr_setW, xww_setI, xww_setR, xi_setI, xr_setR, xww_setW, xE_new, xsz_new, xsl_new, hM.tx, hM.xp, hM.l3, txN, xpN, tpN, wpN]) ?_
  refine xw_iload_n (pc := 4) dX1_work_4 1 rfl ?_
  refine xw_callV (pc := 5) (xr_V (as := [_]) ok_X2_isScope rfl (by decide) q1251 q1061 q1062 (by first | (rw [hPN.tag]; rfl) | (rw [hM.P.tag]; rfl)) (by first | (rw [hPN.tag]; rfl) | (rw [hM.P.tag]; rfl)) dX1_work_5 rfl rfl (Nat.le_of_ble_eq_true rfl)) ((show XM M_X2_isScope (d + 79) [.ref p, .int (nI k)] g (xOne (some (.int (bI true))) g) from hsT ▸ SP_X2_isScope hM.P.pl)) ?_
  refine xw_callU (pc := 8) (xr_S (as := [_]) ok_X1_checkIndex rfl (by decide) q1252 q1066 dX1_work_8 rfl rfl (Nat.le_of_ble_eq_true rfl)) (SP_X1_checkIndex_T) ?_
  refine xw_iload_n (pc := 11) dX1_work_11 2 rfl ?_
  refine xw_callV (pc := 12) (xr_S (as := [_]) ok_X1_isDay rfl (by decide) q1265 q1266 dX1_work_12 rfl rfl (Nat.le_of_ble_eq_true rfl)) ((show XM M_X1_isDay (d + 79) [.int (nI a)] g (xOne (some (.int (bI true))) g) from h0 ▸ SP_X1_isDay)) ?_
  refine xw_if_eq (pc := 15) 39 dX1_work_15 rfl (fun hb => absurd hb (by decide)) (fun _ => ?_)
  refine xw_iload_n (pc := 18) dX1_work_18 3 rfl ?_
  refine xw_callV (pc := 19) (xr_S (as := [_]) ok_X1_areFeatures rfl (by decide) q1516 q1517 dX1_work_19 rfl rfl (Nat.le_of_ble_eq_true rfl)) ((show XM M_X1_areFeatures (d + 79) [.int (nI f)] g (xOne (some (.int (bI true))) g) from h1 ▸ SP_X1_areFeatures)) ?_
  refine xw_if_eq (pc := 22) 39 dX1_work_22 rfl (fun hb => absurd hb (by decide)) (fun _ => ?_)
  refine xw_iload (pc := 25) dX1_work_25 4 rfl ?_
  refine xw_iconst (v := nI 0) (pc := 27) dX1_work_27 rfl ?_
  refine xw_iconst (v := nI 2) (pc := 28) dX1_work_28 rfl ?_
  refine xw_callV (pc := 29) (xr_S (as := [_, _, _]) ok_X1_isIn rfl (by decide) q1180 q784 dX1_work_29 rfl rfl (Nat.le_of_ble_eq_true rfl)) (SP_X1_isInT h2) ?_
  refine xw_if_eq (pc := 32) 39 dX1_work_32 rfl (fun hb => absurd hb (by decide)) (fun _ => ?_)
  refine xw_iconst (v := nI 1) (pc := 35) dX1_work_35 rfl ?_
  refine xw_goto (pc := 36) 40 dX1_work_36 rfl ?_
  refine xw_callU (pc := 40) (xr_S (as := [_]) ok_X1_check rfl (by decide) q1181 q1182 dX1_work_40 rfl rfl (Nat.le_of_ble_eq_true rfl)) (SP_X1_check_T) ?_
  refine xw_aload_n (pc := 43) dX1_work_43 0 rfl ?_
  refine xw_new (t := 8) (pc := 44) 5 dX1_work_44 rfl (by decide) (by first | decide | assumption | omega) q1268 q1269 q127 ?_
  refine xw_at (a := (xsz g)) (by rfl) ?_
  refine xw_dup (pc := 47) dX1_work_47 rfl ?_
  refine xw_callU (pc := 48) (xr_IN (as := []) ok_X10_init rfl (by decide) q1270 q1271 rfl rfl dX1_work_48 rfl rfl (Nat.le_of_ble_eq_true rfl)) (SP_X10_init) ?_
  refine xw_aload_n (pc := 51) dX1_work_51 0 rfl ?_
  refine xw_getS (b := p) (pc := 52) fd_X1_10 dX1_work_52 (by first | assumption | (simp [-List.getD_eq_getElem?_getD, xE_setI, xsz_setI, xsl_setI, xtag_setI, xown_setI, xlen_setI, xE_setR, xsz_setR, xsl_setR, xtag_setR, xown_setR, xlen_setR, xE_setW, xsz_setW, xsl_setW, xtag_setW, xown_setW, xlen_setW, xi_setR, xi_setW, xr_setI, xr_setW, xww_setI, xww_setR, xi_setI, xr_setR, xww_setW, xE_new, xsz_new, xsl_new, hM.tx, hM.xp, hM.l3, txN, xpN, tpN, wpN, xsub]; done) | (simp [-List.getD_eq_getElem?_getD, xE_setI, xsz_setI, xsl_setI, xtag_setI, xown_setI, xlen_setI, xE_setR, xsz_setR, xsl_setR, xtag_setR, xown_setR, xlen_setR, xE_setW, xsz_setW, xsl_setW, xtag_setW, xown_setW, xlen_setW, xi_setR, xi_setW, xr_setI, xr_setW, xww_setI, xww_setR, xi_setI, xr_setR, xww_setW, xE_new, xsz_new, xsl_new, hM.tx, hM.xp, hM.l3, txN, xpN, tpN, wpN] <;> rfl)) (by simp [-List.getD_eq_getElem?_getD, xE_setI, xsz_setI, xsl_setI, xtag_setI, xown_setI, xlen_setI, xE_setR, xsz_setR, xsl_setR, xtag_setR, xown_setR, xlen_setR, xE_setW, xsz_setW, xsl_setW, xtag_setW, xown_setW, xlen_setW, xi_setR, xi_setW, xr_setI, xr_setW, xww_setI, xww_setR, xi_setI, xr_setR, xww_setW, xE_new, xsz_new, xsl_new, hM.tx, hM.xp, hM.l3, txN, xpN, tpN, wpN]) ?_
  refine xw_getS (b := (aL Z 4)) (pc := 55) fd_X1_374 dX1_work_55 (by first | assumption | (simp [-List.getD_eq_getElem?_getD, xE_setI, xsz_setI, xsl_setI, xtag_setI, xown_setI, xlen_setI, xE_setR, xsz_setR, xsl_setR, xtag_setR, xown_setR, xlen_setR, xE_setW, xsz_setW, xsl_setW, xtag_setW, xown_setW, xlen_setW, xi_setR, xi_setW, xr_setI, xr_setW, xww_setI, xww_setR, xi_setI, xr_setR, xww_setW, xE_new, xsz_new, xsl_new, hM.tx, hM.xp, hM.l3, txN, xpN, tpN, wpN, xsub]; done) | (simp [-List.getD_eq_getElem?_getD, xE_setI, xsz_setI, xsl_setI, xtag_setI, xown_setI, xlen_setI, xE_setR, xsz_setR, xsl_setR, xtag_setR, xown_setR, xlen_setR, xE_setW, xsz_setW, xsl_setW, xtag_setW, xown_setW, xlen_setW, xi_setR, xi_setW, xr_setI, xr_setW, xww_setI, xww_setR, xi_setI, xr_setR, xww_setW, xE_new, xsz_new, xsl_new, hM.tx, hM.xp, hM.l3, txN, xpN, tpN, wpN] <;> rfl)) (by simp [-List.getD_eq_getElem?_getD, xE_setI, xsz_setI, xsl_setI, xtag_setI, xown_setI, xlen_setI, xE_setR, xsz_setR, xsl_setR, xtag_setR, xown_setR, xlen_setR, xE_setW, xsz_setW, xsl_setW, xtag_setW, xown_setW, xlen_setW, xi_setR, xi_setW, xr_setI, xr_setW, xww_setI, xww_setR, xi_setI, xr_setR, xww_setW, xE_new, xsz_new, xsl_new, hM.tx, hM.xp, hM.l3, txN, xpN, tpN, wpN]) ?_
  refine xw_callV (pc := 58) (xr_V (as := []) ok_J2_size rfl (by decide) q701 q702 q703 (by first | (rw [tl9]; rfl) | (rw [hPN.l2.1]; rfl) | (rw [hP2n.l2.1]; rfl) | (rw [hP3.l2.1]; rfl) | (rw [hP2.l2.1]; rfl) | (rw [hP9.l2.1]; rfl)) (by first | (rw [tl9]; rfl) | (rw [hPN.l2.1]; rfl) | (rw [hP2n.l2.1]; rfl) | (rw [hP3.l2.1]; rfl) | (rw [hP2.l2.1]; rfl) | (rw [hP9.l2.1]; rfl)) dX1_work_58 rfl rfl (Nat.le_of_ble_eq_true rfl)) (SP_J2_size hPN.l2) ?_
  refine xw_bipush (v := nI 12) (pc := 61) dX1_work_61 (by decide +kernel) ?_
  refine xw_icmp_ne (pc := 63) 70 dX1_work_63 rfl (fun hb63 => ?_) (fun hb63 => ?_)
  rotate_left
  · exfalso
    replace hb63 : (aW Z).length = 12 := (nI_eq (a := (aW Z).length) (b := 12) (by omega) (by omega)).mp hb63
    omega
  replace hb63 : ¬ ((aW Z).length = 12) := mt (nI_eq (a := (aW Z).length) (b := 12) (by omega) (by omega)).mpr hb63
  refine xw_iconst (v := nI 0) (pc := 70) dX1_work_70 rfl ?_
  refine xw_bipush (v := nI 10) (pc := 71) dX1_work_71 (by decide +kernel) ?_
  refine xw_iconst (v := nI 0) (pc := 73) dX1_work_73 rfl ?_
  refine xw_callF (pc := 74) (xr_V (as := [_, _, _]) ok_X10_asks rfl (by decide) q1447 q1284 q1285 (by first | (rw [xWy_new.1]; rfl)) (by first | (rw [xWy_new.1]; rfl)) dX1_work_74 rfl rfl (Nat.le_of_ble_eq_true rfl)) (SP_X10_asks (b := false) (re := 10) (c := 0) xWy_new (by first | rfl | exact nI1 | exact nI0) (by decide)) ?_
  intro g74 hc74 hm74
  have hw12n : ¬ ww = 12 := by omega
  have F9 := (FN.tr hc74.2).sub (fun _ h => h) (Nat.le_refl _)
  have hw9 : xWy g74 (xsz g) (workW ww) := hc74.1.congr (by unfold wAsk workW; simp [hw12n])
  have hP9 := hM.P.fr F9 (fun o h1 h2 => by unfold oP at h1; unfold oEq at h2; omega) (by unfold oEq; omega)
  have hM9 := hM.fr F9 oK5 hP9
  have hv : (workW ww).1 = 0 := by unfold workW; rw [if_neg hw12n]
  have hxl : x < xsz g := xlt (by rw [hM.tx]; decide)
  have nx5 : ¬ oEq 5 (xown g x) := by rw [hM.ox]; unfold oEq; omega
  exact tl_X1_work hM9 ⟨(F9.r' hxl nx5).trans hPa.1, hPa.2.1.fr F9 (by unfold oEq; omega), trivial, hPa.2.2.2⟩ hk ha hf hq hw12 hw9 hv F9 (by decide)

theorem SP_X1_work_R {d : Nat} {g : xG} {x p lk fa ka la n rr ww : Nat} {Z : xAd} {S : xMS} (hM : xMn g x p lk fa ka la Z S n rr ww) {k a f q : Nat} (hk : k < n) (ha : a < 1000) (hf : f < 1000000) (hq : q < 3) (hw12 : ww = 12) : XM M_X1_work (d + 80) [.ref x, .int (nI k), .int (nI a), .int (nI f), .int (nI q)] g (xRef g x (workW ww)) := by
  have hlc := hM.P.lc
  have n10 := hM.P.wf.n10
  have hlw := hM.P.lw
  have w12 := hM.P.wf.w12
  have hsT : inR (nI k) (nI 0) (nI (aC Z).length - nI 1) = true := inR_k (by omega) (by omega)
  have h0 : inR (nI a) (nI 0) (nI 999) = true := inR_nat' (by decide) (by omega)
  have h1 : inR (nI f) (nI 0) (nI 999999) = true := inR_nat' (by decide) (by omega)
  have h2 : inR (nI q) (nI 0) (nI 2) = true := inR_nat' (by decide) (by omega)
  have FN : xFr (oEq 5) 2 g (xNew g (xBlank 8 5 1) 1) := (xFr.rf (n := 0)).nw
  have p0 := hM.P.p0
  have hPN := hM.P.fr FN (fun o h1 h2 => by unfold oP at h1; unfold oEq at h2; omega) (by unfold oEq; omega)
  have oK5 : oKeep (oEq 5) := by unfold oKeep oEq; omega
  have hMN := hM.fr FN oK5 hPN
  have txN : xtag (xNew g (xBlank 8 5 1) 1) x = 1 := hMN.tx
  have xpN : xr (xNew g (xBlank 8 5 1) 1) x 0 = some p := hMN.xp
  have tpN : xtag (xNew g (xBlank 8 5 1) 1) p = 2 := hPN.tag
  have wpN : xr (xNew g (xBlank 8 5 1) 1) p 2 = some (aL Z 4) := hPN.f2
  refine xm_of (by decide +kernel) (Nat.le_of_ble_eq_true rfl) ?_
  show XW _ _ 0 [(0, _), (1, _), (2, _), (3, _), (4, _)] [] _ _
  refine xw_aload_n (pc := 0) dX1_work_0 0 rfl ?_
  refine xw_getS (b := p) (pc := 1) fd_X1_10 dX1_work_1 (by first | assumption | (simp [-List.getD_eq_getElem?_getD, xE_setI, xsz_setI, xsl_setI, xtag_setI, xown_setI, xlen_setI, xE_setR, xsz_setR, xsl_setR, xtag_setR, xown_setR, xlen_setR, xE_setW, xsz_setW, xsl_setW, xtag_setW, xown_setW, xlen_setW, xi_setR, xi_setW, xr_setI, xr_setW, xww_setI, xww_setR, xi_setI, xr_setR, xww_setW, xE_new, xsz_new, xsl_new, hM.tx, hM.xp, hM.l3, txN, xpN, tpN, wpN, xsub]; done) | (simp [-List.getD_eq_getElem?_getD, xE_setI, xsz_setI, xsl_setI, xtag_setI, xown_setI, xlen_setI, xE_setR, xsz_setR, xsl_setR, xtag_setR, xown_setR, xlen_setR, xE_setW, xsz_setW, xsl_setW, xtag_setW, xown_setW, xlen_setW, xi_setR, xi_setW, xr_setI, xr_setW, xww_setI, xww_setR, xi_setI, xr_setR, xww_setW, xE_new, xsz_new, xsl_new, hM.tx, hM.xp, hM.l3, txN, xpN, tpN, wpN] <;> rfl)) (by simp [-List.getD_eq_getElem?_getD, xE_setI, xsz_setI, xsl_setI, xtag_setI, xown_setI, xlen_setI, xE_setR, xsz_setR, xsl_setR, xtag_setR, xown_setR, xlen_setR, xE_setW, xsz_setW, xsl_setW, xtag_setW, xown_setW, xlen_setW, xi_setR, xi_setW, xr_setI, xr_setW, xww_setI, xww_setR, xi_setI, xr_setR, xww_setW, xE_new, xsz_new, xsl_new, hM.tx, hM.xp, hM.l3, txN, xpN, tpN, wpN]) ?_
  refine xw_iload_n (pc := 4) dX1_work_4 1 rfl ?_
  refine xw_callV (pc := 5) (xr_V (as := [_]) ok_X2_isScope rfl (by decide) q1251 q1061 q1062 (by first | (rw [hPN.tag]; rfl) | (rw [hM.P.tag]; rfl)) (by first | (rw [hPN.tag]; rfl) | (rw [hM.P.tag]; rfl)) dX1_work_5 rfl rfl (Nat.le_of_ble_eq_true rfl)) ((show XM M_X2_isScope (d + 79) [.ref p, .int (nI k)] g (xOne (some (.int (bI true))) g) from hsT ▸ SP_X2_isScope hM.P.pl)) ?_
  refine xw_callU (pc := 8) (xr_S (as := [_]) ok_X1_checkIndex rfl (by decide) q1252 q1066 dX1_work_8 rfl rfl (Nat.le_of_ble_eq_true rfl)) (SP_X1_checkIndex_T) ?_
  refine xw_iload_n (pc := 11) dX1_work_11 2 rfl ?_
  refine xw_callV (pc := 12) (xr_S (as := [_]) ok_X1_isDay rfl (by decide) q1265 q1266 dX1_work_12 rfl rfl (Nat.le_of_ble_eq_true rfl)) ((show XM M_X1_isDay (d + 79) [.int (nI a)] g (xOne (some (.int (bI true))) g) from h0 ▸ SP_X1_isDay)) ?_
  refine xw_if_eq (pc := 15) 39 dX1_work_15 rfl (fun hb => absurd hb (by decide)) (fun _ => ?_)
  refine xw_iload_n (pc := 18) dX1_work_18 3 rfl ?_
  refine xw_callV (pc := 19) (xr_S (as := [_]) ok_X1_areFeatures rfl (by decide) q1516 q1517 dX1_work_19 rfl rfl (Nat.le_of_ble_eq_true rfl)) ((show XM M_X1_areFeatures (d + 79) [.int (nI f)] g (xOne (some (.int (bI true))) g) from h1 ▸ SP_X1_areFeatures)) ?_
  refine xw_if_eq (pc := 22) 39 dX1_work_22 rfl (fun hb => absurd hb (by decide)) (fun _ => ?_)
  refine xw_iload (pc := 25) dX1_work_25 4 rfl ?_
  refine xw_iconst (v := nI 0) (pc := 27) dX1_work_27 rfl ?_
  refine xw_iconst (v := nI 2) (pc := 28) dX1_work_28 rfl ?_
  refine xw_callV (pc := 29) (xr_S (as := [_, _, _]) ok_X1_isIn rfl (by decide) q1180 q784 dX1_work_29 rfl rfl (Nat.le_of_ble_eq_true rfl)) (SP_X1_isInT h2) ?_
  refine xw_if_eq (pc := 32) 39 dX1_work_32 rfl (fun hb => absurd hb (by decide)) (fun _ => ?_)
  refine xw_iconst (v := nI 1) (pc := 35) dX1_work_35 rfl ?_
  refine xw_goto (pc := 36) 40 dX1_work_36 rfl ?_
  refine xw_callU (pc := 40) (xr_S (as := [_]) ok_X1_check rfl (by decide) q1181 q1182 dX1_work_40 rfl rfl (Nat.le_of_ble_eq_true rfl)) (SP_X1_check_T) ?_
  refine xw_aload_n (pc := 43) dX1_work_43 0 rfl ?_
  refine xw_new (t := 8) (pc := 44) 5 dX1_work_44 rfl (by decide) (by first | decide | assumption | omega) q1268 q1269 q127 ?_
  refine xw_at (a := (xsz g)) (by rfl) ?_
  refine xw_dup (pc := 47) dX1_work_47 rfl ?_
  refine xw_callU (pc := 48) (xr_IN (as := []) ok_X10_init rfl (by decide) q1270 q1271 rfl rfl dX1_work_48 rfl rfl (Nat.le_of_ble_eq_true rfl)) (SP_X10_init) ?_
  refine xw_aload_n (pc := 51) dX1_work_51 0 rfl ?_
  refine xw_getS (b := p) (pc := 52) fd_X1_10 dX1_work_52 (by first | assumption | (simp [-List.getD_eq_getElem?_getD, xE_setI, xsz_setI, xsl_setI, xtag_setI, xown_setI, xlen_setI, xE_setR, xsz_setR, xsl_setR, xtag_setR, xown_setR, xlen_setR, xE_setW, xsz_setW, xsl_setW, xtag_setW, xown_setW, xlen_setW, xi_setR, xi_setW, xr_setI, xr_setW, xww_setI, xww_setR, xi_setI, xr_setR, xww_setW, xE_new, xsz_new, xsl_new, hM.tx, hM.xp, hM.l3, txN, xpN, tpN, wpN, xsub]; done) | (simp [-List.getD_eq_getElem?_getD, xE_setI, xsz_setI, xsl_setI, xtag_setI, xown_setI, xlen_setI, xE_setR, xsz_setR, xsl_setR, xtag_setR, xown_setR, xlen_setR, xE_setW, xsz_setW, xsl_setW, xtag_setW, xown_setW, xlen_setW, xi_setR, xi_setW, xr_setI, xr_setW, xww_setI, xww_setR, xi_setI, xr_setR, xww_setW, xE_new, xsz_new, xsl_new, hM.tx, hM.xp, hM.l3, txN, xpN, tpN, wpN] <;> rfl)) (by simp [-List.getD_eq_getElem?_getD, xE_setI, xsz_setI, xsl_setI, xtag_setI, xown_setI, xlen_setI, xE_setR, xsz_setR, xsl_setR, xtag_setR, xown_setR, xlen_setR, xE_setW, xsz_setW, xsl_setW, xtag_setW, xown_setW, xlen_setW, xi_setR, xi_setW, xr_setI, xr_setW, xww_setI, xww_setR, xi_setI, xr_setR, xww_setW, xE_new, xsz_new, xsl_new, hM.tx, hM.xp, hM.l3, txN, xpN, tpN, wpN]) ?_
  refine xw_getS (b := (aL Z 4)) (pc := 55) fd_X1_374 dX1_work_55 (by first | assumption | (simp [-List.getD_eq_getElem?_getD, xE_setI, xsz_setI, xsl_setI, xtag_setI, xown_setI, xlen_setI, xE_setR, xsz_setR, xsl_setR, xtag_setR, xown_setR, xlen_setR, xE_setW, xsz_setW, xsl_setW, xtag_setW, xown_setW, xlen_setW, xi_setR, xi_setW, xr_setI, xr_setW, xww_setI, xww_setR, xi_setI, xr_setR, xww_setW, xE_new, xsz_new, xsl_new, hM.tx, hM.xp, hM.l3, txN, xpN, tpN, wpN, xsub]; done) | (simp [-List.getD_eq_getElem?_getD, xE_setI, xsz_setI, xsl_setI, xtag_setI, xown_setI, xlen_setI, xE_setR, xsz_setR, xsl_setR, xtag_setR, xown_setR, xlen_setR, xE_setW, xsz_setW, xsl_setW, xtag_setW, xown_setW, xlen_setW, xi_setR, xi_setW, xr_setI, xr_setW, xww_setI, xww_setR, xi_setI, xr_setR, xww_setW, xE_new, xsz_new, xsl_new, hM.tx, hM.xp, hM.l3, txN, xpN, tpN, wpN] <;> rfl)) (by simp [-List.getD_eq_getElem?_getD, xE_setI, xsz_setI, xsl_setI, xtag_setI, xown_setI, xlen_setI, xE_setR, xsz_setR, xsl_setR, xtag_setR, xown_setR, xlen_setR, xE_setW, xsz_setW, xsl_setW, xtag_setW, xown_setW, xlen_setW, xi_setR, xi_setW, xr_setI, xr_setW, xww_setI, xww_setR, xi_setI, xr_setR, xww_setW, xE_new, xsz_new, xsl_new, hM.tx, hM.xp, hM.l3, txN, xpN, tpN, wpN]) ?_
  refine xw_callV (pc := 58) (xr_V (as := []) ok_J2_size rfl (by decide) q701 q702 q703 (by first | (rw [tl9]; rfl) | (rw [hPN.l2.1]; rfl) | (rw [hP2n.l2.1]; rfl) | (rw [hP3.l2.1]; rfl) | (rw [hP2.l2.1]; rfl) | (rw [hP9.l2.1]; rfl)) (by first | (rw [tl9]; rfl) | (rw [hPN.l2.1]; rfl) | (rw [hP2n.l2.1]; rfl) | (rw [hP3.l2.1]; rfl) | (rw [hP2.l2.1]; rfl) | (rw [hP9.l2.1]; rfl)) dX1_work_58 rfl rfl (Nat.le_of_ble_eq_true rfl)) (SP_J2_size hPN.l2) ?_
  refine xw_bipush (v := nI 12) (pc := 61) dX1_work_61 (by decide +kernel) ?_
  refine xw_icmp_ne (pc := 63) 70 dX1_work_63 rfl (fun hb63 => ?_) (fun hb63 => ?_)
  · exfalso
    replace hb63 : ¬ ((aW Z).length = 12) := mt (nI_eq (a := (aW Z).length) (b := 12) (by omega) (by omega)).mpr hb63
    omega
  replace hb63 : (aW Z).length = 12 := (nI_eq (a := (aW Z).length) (b := 12) (by omega) (by omega)).mp hb63
  refine xw_iconst (v := nI 1) (pc := 66) dX1_work_66 rfl ?_
  refine xw_goto (pc := 67) 71 dX1_work_67 rfl ?_
  refine xw_bipush (v := nI 10) (pc := 71) dX1_work_71 (by decide +kernel) ?_
  refine xw_iconst (v := nI 0) (pc := 73) dX1_work_73 rfl ?_
  refine xw_callF (pc := 74) (xr_V (as := [_, _, _]) ok_X10_asks rfl (by decide) q1447 q1284 q1285 (by first | (rw [xWy_new.1]; rfl)) (by first | (rw [xWy_new.1]; rfl)) dX1_work_74 rfl rfl (Nat.le_of_ble_eq_true rfl)) (SP_X10_asks (b := true) (re := 10) (c := 1) xWy_new (by first | rfl | exact nI1 | exact nI0) (by decide)) ?_
  intro g74 hc74 hm74
  have F9 := (FN.tr hc74.2).sub (fun _ h => h) (Nat.le_refl _)
  have hw9 : xWy g74 (xsz g) (workW ww) := hc74.1.congr (by unfold wAsk workW; simp [hw12])
  have hP9 := hM.P.fr F9 (fun o h1 h2 => by unfold oP at h1; unfold oEq at h2; omega) (by unfold oEq; omega)
  have hM9 := hM.fr F9 oK5 hP9
  have hv : (workW ww).1 ≠ 0 := by unfold workW; rw [if_pos hw12]; decide
  refine xw_callY (pc := 77) (xr_V (as := [_]) ok_X1_refuse rfl (by decide) q1302 q1304 qs22 (by rw [hM9.tx]; rfl) (by rw [hM9.tx]; rfl) dX1_work_77 rfl rfl (Nat.le_of_ble_eq_true rfl)) (SP_X1_refuse_Y hw9 hv hM.tx hM.ox F9 (by decide)) xRef_up rfl ?_
  exact fun _ _ h => h

