/-! CLASS 51: explain, whole -/
set_option maxRecDepth 100000
theorem xMn.fr12 {g g' : xG} {x p lk fa ka la n rr ww N : Nat} {Z : xAd} {S : xMS} (h : xMn g x p lk fa ka la Z S n rr ww) (F : xFr (oEq 12) N g g') : xMn g' x p lk fa ka la Z S n rr ww := by
  have hx : x < xsz g := xlt (by rw [h.tx]; decide)
  have nx : ¬ oEq 12 (xown g x) := by rw [h.ox]; unfold oEq; omega
  have hl : lk < xsz g := xlt (by rw [h.B.lt]; decide)
  obtain ⟨e1, e2, e3⟩ := h.em
  have he : (xE g).2.2.1 4 < xsz g := xlt (by rw [e1]; decide)
  exact ⟨⟨(F.tag hx).trans h.tx, (F.own hx).trans h.ox, (F.r' hx nx).trans h.xp⟩, h.P.fr F (fun o h1 h2 => by have := h.P.p0; unfold oP at h1; unfold oEq at h2; omega) (by unfold oEq; omega), (F.r' hx nx).trans h.l3, h.B.fr F (fun j _ => F.r' hl (by rw [h.B.lko]; unfold oEq; omega)), h.cn.fr F (by unfold oEq; omega), ⟨by rw [F.e, F.tag he]; exact e1, by rw [F.e, F.len he]; exact e2, by rw [F.e, F.own he]; exact e3⟩⟩
def o612 : Nat → Prop := fun o => o = 6 ∨ o = 12
theorem xFr.a6 {g g' : xG} {N : Nat} (h : xFr (oEq 6) N g g') : xFr o612 N g g' := h.sub (fun o h => Or.inl h) (Nat.le_refl _)
theorem xFr.a12 {g g' : xG} {N : Nat} (h : xFr (oEq 12) N g g') : xFr o612 N g g' := h.sub (fun o h => Or.inr h) (Nat.le_refl _)

theorem end_X1_explain {d : Nat} {g : xG} {x p lk fa ka la n rr ww : Nat} {Z : xAd} {S : xMS} (hM : xMn g x p lk fa ka la Z S n rr ww) {k e : Nat} {day feats : Int32} {L : List Nat} {eb : Nat} (h10 : xr g x 10 = some eb) (hSC : xSC g) (he : e < 3) (hoe : ocm (S 1) (hld (isPa (S 1)) rr (cov (S 1) (-1) k day feats)) rr k = nI e) (hL5 : L.length ≤ 5) : ∀ gi, xCs gi x lk fa ka la p Z (S 1) n rr ww k day feats (-1) (hld (isPa (S 1)) rr (cov (S 1) (-1) k day feats)) → xBT gi 12 eb (exP L L.length) → xFr (oEq 12) (2600 * L.length) g gi → XW M_X1_explain (d + 80) 72 [(6, .int (nI L.length)), (5, .int (nI L.length)), (4, .ref lk), (0, .ref x), (1, .int (nI k)), (2, .int day), (3, .int feats)] [] gi (xVal (.int (nI (exT L e).length)) (fun g' => xBT g' 12 eb (exT L e) ∧ xLb g' x lk fa ka la ∧ xFr o612 17000 g g')) := by
    intro gi hCs0 hBI hF
    have l2 : (xTxt 2).length = 0 := by decide +kernel
    have l3 : (xTxt 3).length = 7 := by decide +kernel
    have l4 : (xTxt 4).length = 2 := by decide +kernel
    have lw : ∀ e, e < 3 → (xTxt (5 + e)).length ≤ 7 := by
      intro e he
      have h9 : e = 0 ∨ e = 1 ∨ e = 2 := by omega
      rcases h9 with rfl | rfl | rfl <;> decide +kernel
    have hpl := exP_len L L.length
    have hSC0 := hSC.fr hF (by unfold oEq; omega)
    have hcn0 := hM.cn.fr hF (by unfold oEq; omega)
    have tx0 : xtag gi x = 1 := hCs0.tx
    have tk0 : xtag gi lk = 4 := hCs0.lt
    have te0 : xr gi x 10 = some eb := (hF.r' (xlt (by rw [hM.tx]; decide)) (by rw [hM.ox]; unfold oEq; omega)).trans h10
    refine xw_aload_n (pc := 72) dX1_explain_72 3 rfl ?_
    refine xw_getS (b := eb) (pc := 73) fd_X1_55 dX1_explain_73 (by first | assumption | (simp [-List.getD_eq_getElem?_getD, xE_setI, xsz_setI, xsl_setI, xtag_setI, xown_setI, xlen_setI, xE_setR, xsz_setR, xsl_setR, xtag_setR, xown_setR, xlen_setR, xE_setW, xsz_setW, xsl_setW, xtag_setW, xown_setW, xlen_setW, xi_setR, xi_setW, xr_setI, xr_setW, xww_setI, xww_setR, xi_setI, xr_setR, xww_setW, xE_new, xsz_new, xsl_new, tx0, te0, tk0, xsub]; done) | (simp [-List.getD_eq_getElem?_getD, xE_setI, xsz_setI, xsl_setI, xtag_setI, xown_setI, xlen_setI, xE_setR, xsz_setR, xsl_setR, xtag_setR, xown_setR, xlen_setR, xE_setW, xsz_setW, xsl_setW, xtag_setW, xown_setW, xlen_setW, xi_setR, xi_setW, xr_setI, xr_setW, xww_setI, xww_setR, xi_setI, xr_setR, xww_setW, xE_new, xsz_new, xsl_new, tx0, te0, tk0] <;> rfl)) (by simp [-List.getD_eq_getElem?_getD, xE_setI, xsz_setI, xsl_setI, xtag_setI, xown_setI, xlen_setI, xE_setR, xsz_setR, xsl_setR, xtag_setR, xown_setR, xlen_setR, xE_setW, xsz_setW, xsl_setW, xtag_setW, xown_setW, xlen_setW, xi_setR, xi_setW, xr_setI, xr_setW, xww_setI, xww_setR, xi_setI, xr_setR, xww_setW, xE_new, xsz_new, xsl_new, tx0, te0, tk0]) ?_
    refine xw_iload (pc := 76) dX1_explain_76 1 rfl ?_
    refine xw_if_ne (pc := 78) 87 dX1_explain_78 rfl (fun hb78 => ?_) (fun hb78 => ?_)
    · replace hb78 : ¬ (L.length = 0) := mt (nI_eq (a := L.length) (b := 0) (by omega) (by omega)).mpr hb78
      have hz : ¬ L.length = 0 := by omega
      have es : (if L.length = 0 then xTxt 3 else xTxt 2) = xTxt 2 := if_neg hz
      refine xw_ldcwS (i := 2) (pc := 87) dX1_explain_87 rfl ?_
      refine xw_callF (pc := 90) (xr_V (as := [_]) ok_J8_append rfl (by decide) q2147 q255 q256 (by first | (rw [hBI.tag]; rfl) | (rw [hc90.1.tag]; rfl) | (rw [hc96.1.tag]; rfl) | (rw [hB101.tag]; rfl) | (rw [hc107.1.tag]; rfl)) (by first | (rw [hBI.tag]; rfl) | (rw [hc90.1.tag]; rfl) | (rw [hc96.1.tag]; rfl) | (rw [hB101.tag]; rfl) | (rw [hc107.1.tag]; rfl)) dX1_explain_90 rfl rfl (Nat.le_of_ble_eq_true rfl)) (SP_J8_appT (i := 2) hBI (by decide) hSC0 (by decide) (by have := l2; omega)) ?_
      intro g90 hc90 hm90
      have hCs90 := hCs0.frO hc90.2 (by unfold oEq; omega) (by unfold oEq; omega) (by unfold oEq; omega) (fun o h1 h2 => by have := hM.P.p0; unfold oP at h1; unfold oEq at h2; omega)
      have hSC90 := hSC0.fr hc90.2 (by unfold oEq; omega)
      have hcn90 := hcn0.fr hc90.2 (by unfold oEq; omega)
      have tx90 : xtag g90 x = 1 := hCs90.tx
      have tk90 : xtag g90 lk = 4 := hCs90.lt
      have te90 : xr g90 x 10 = some eb := (hc90.2.r' (xlt (by rw [hCs0.tx]; decide)) (by rw [hCs0.ox]; unfold oEq; omega)).trans te0
      refine xw_ldcwS (i := 4) (pc := 93) dX1_explain_93 rfl ?_
      refine xw_callF (pc := 96) (xr_V (as := [_]) ok_J8_append rfl (by decide) q2147 q255 q256 (by first | (rw [hBI.tag]; rfl) | (rw [hc90.1.tag]; rfl) | (rw [hc96.1.tag]; rfl) | (rw [hB101.tag]; rfl) | (rw [hc107.1.tag]; rfl)) (by first | (rw [hBI.tag]; rfl) | (rw [hc90.1.tag]; rfl) | (rw [hc96.1.tag]; rfl) | (rw [hB101.tag]; rfl) | (rw [hc107.1.tag]; rfl)) dX1_explain_96 rfl rfl (Nat.le_of_ble_eq_true rfl)) (SP_J8_appT (i := 4) hc90.1 (by decide) hSC90 (by decide) (by rw [List.length_append]; omega)) ?_
      intro g96 hc96 hm96
      have hCs96 := hCs90.frO hc96.2 (by unfold oEq; omega) (by unfold oEq; omega) (by unfold oEq; omega) (fun o h1 h2 => by have := hM.P.p0; unfold oP at h1; unfold oEq at h2; omega)
      have hSC96 := hSC90.fr hc96.2 (by unfold oEq; omega)
      have hcn96 := hcn90.fr hc96.2 (by unfold oEq; omega)
      have tx96 : xtag g96 x = 1 := hCs96.tx
      have tk96 : xtag g96 lk = 4 := hCs96.lt
      have te96 : xr g96 x 10 = some eb := (hc96.2.r' (xlt (by rw [hCs90.tx]; decide)) (by rw [hCs90.ox]; unfold oEq; omega)).trans te90
      refine xw_aload (pc := 99) dX1_explain_99 2 rfl ?_
      refine xw_callF (pc := 101) (xr_V (as := []) ok_X5_outcome rfl (by decide) q746 q747 q748 (by first | (rw [tk0]; rfl) | (rw [tk90]; rfl) | (rw [tk96]; rfl) | (rw [tk101]; rfl) | (rw [tk107]; rfl)) (by first | (rw [tk0]; rfl) | (rw [tk90]; rfl) | (rw [tk96]; rfl) | (rw [tk101]; rfl) | (rw [tk107]; rfl)) dX1_explain_101 rfl rfl (Nat.le_of_ble_eq_true rfl)) (SP_X5_outcome (d := d + 32) hCs96) ?_
      intro g101 hc101 hm101
      have hF101 : xFr (oEq 6) 0 g96 g101 := hc101.2.fr hCs96.kao6
      have hB101 : xBT g101 12 eb _ := hc96.1.fr hF101 (by unfold oEq; omega)
      have hCs101 := hc101.1
      have hSC101 := hSC96.fr hF101 (by unfold oEq; omega)
      have hcn101 := hcn96.fr hF101 (by unfold oEq; omega)
      have tx101 : xtag g101 x = 1 := hCs101.tx
      have tk101 : xtag g101 lk = 4 := hCs101.lt
      have te101 : xr g101 x 10 = some eb := (hF101.r' (xlt (by rw [hCs96.tx]; decide)) (by rw [hCs96.ox]; unfold oEq; omega)).trans te96
      rw [show effO g96 (ocm (S 1) (hld (isPa (S 1)) rr (cov (S 1) (-1) k day feats)) rr k) = effO g101 (ocm (S 1) (hld (isPa (S 1)) rr (cov (S 1) (-1) k day feats)) rr k) from (effO_fr hF101 _).symm]
      refine xw_wordE (pc := 104) hcn101 ⟨e, he, hoe⟩ dX1_explain_104 q2151 (Nat.le_of_ble_eq_true rfl) ?_
      intro e2 he2 hv2
      have ee : e2 = e := by
        have h9 := hoe.symm.trans hv2
        exact ((nI_eq (a := e) (b := e2) (by omega) (by omega)).mp h9).symm
      subst ee
      refine xw_callF (pc := 107) (xr_V (as := [_]) ok_J8_append rfl (by decide) q2147 q255 q256 (by first | (rw [hBI.tag]; rfl) | (rw [hc90.1.tag]; rfl) | (rw [hc96.1.tag]; rfl) | (rw [hB101.tag]; rfl) | (rw [hc107.1.tag]; rfl)) (by first | (rw [hBI.tag]; rfl) | (rw [hc90.1.tag]; rfl) | (rw [hc96.1.tag]; rfl) | (rw [hB101.tag]; rfl) | (rw [hc107.1.tag]; rfl)) dX1_explain_107 rfl rfl (Nat.le_of_ble_eq_true rfl)) (SP_J8_appT (i := 5 + e2) hB101 (by decide) hSC101 (by omega) (by have h9 := lw e2 he2; simp only [List.length_append] at *; omega)) ?_
      intro g107 hc107 hm107
      have hCs107 := hCs101.frO hc107.2 (by unfold oEq; omega) (by unfold oEq; omega) (by unfold oEq; omega) (fun o h1 h2 => by have := hM.P.p0; unfold oP at h1; unfold oEq at h2; omega)
      have hSC107 := hSC101.fr hc107.2 (by unfold oEq; omega)
      have hcn107 := hcn101.fr hc107.2 (by unfold oEq; omega)
      have tx107 : xtag g107 x = 1 := hCs107.tx
      have tk107 : xtag g107 lk = 4 := hCs107.lt
      have te107 : xr g107 x 10 = some eb := (hc107.2.r' (xlt (by rw [hCs101.tx]; decide)) (by rw [hCs101.ox]; unfold oEq; omega)).trans te101
      refine xw_pop (pc := 110) dX1_explain_110 rfl ?_
      refine xw_aload_n (pc := 111) dX1_explain_111 3 rfl ?_
      refine xw_getS (b := eb) (pc := 112) fd_X1_55 dX1_explain_112 (by first | assumption | (simp [-List.getD_eq_getElem?_getD, xE_setI, xsz_setI, xsl_setI, xtag_setI, xown_setI, xlen_setI, xE_setR, xsz_setR, xsl_setR, xtag_setR, xown_setR, xlen_setR, xE_setW, xsz_setW, xsl_setW, xtag_setW, xown_setW, xlen_setW, xi_setR, xi_setW, xr_setI, xr_setW, xww_setI, xww_setR, xi_setI, xr_setR, xww_setW, xE_new, xsz_new, xsl_new, tx0, te0, tk0, tx90, te90, tk90, tx96, te96, tk96, tx101, te101, tk101, tx107, te107, tk107, xsub]; done) | (simp [-List.getD_eq_getElem?_getD, xE_setI, xsz_setI, xsl_setI, xtag_setI, xown_setI, xlen_setI, xE_setR, xsz_setR, xsl_setR, xtag_setR, xown_setR, xlen_setR, xE_setW, xsz_setW, xsl_setW, xtag_setW, xown_setW, xlen_setW, xi_setR, xi_setW, xr_setI, xr_setW, xww_setI, xww_setR, xi_setI, xr_setR, xww_setW, xE_new, xsz_new, xsl_new, tx0, te0, tk0, tx90, te90, tk90, tx96, te96, tk96, tx101, te101, tk101, tx107, te107, tk107] <;> rfl)) (by simp [-List.getD_eq_getElem?_getD, xE_setI, xsz_setI, xsl_setI, xtag_setI, xown_setI, xlen_setI, xE_setR, xsz_setR, xsl_setR, xtag_setR, xown_setR, xlen_setR, xE_setW, xsz_setW, xsl_setW, xtag_setW, xown_setW, xlen_setW, xi_setR, xi_setW, xr_setI, xr_setW, xww_setI, xww_setR, xi_setI, xr_setR, xww_setW, xE_new, xsz_new, xsl_new, tx0, te0, tk0, tx90, te90, tk90, tx96, te96, tk96, tx101, te101, tk101, tx107, te107, tk107]) ?_
      refine xw_callV (pc := 115) (xr_V (as := []) ok_J8_length rfl (by decide) q1809 q421 q2779 (by first | (rw [hBI.tag]; rfl) | (rw [hc90.1.tag]; rfl) | (rw [hc96.1.tag]; rfl) | (rw [hB101.tag]; rfl) | (rw [hc107.1.tag]; rfl)) (by first | (rw [hBI.tag]; rfl) | (rw [hc90.1.tag]; rfl) | (rw [hc96.1.tag]; rfl) | (rw [hB101.tag]; rfl) | (rw [hc107.1.tag]; rfl)) dX1_explain_115 rfl rfl (Nat.le_of_ble_eq_true rfl)) (SP_J8_len hc107.1.d) ?_
      refine xw_iret (pc := 118) .int dX1_explain_118 rfl ?_ 
      rw [show (nI ((exP L L.length ++ _ ++ xTxt 4) ++ xTxt (5 + e2)).length) = nI (exT L e2).length from by unfold exT; rw [es]]
      refine ⟨rfl, ?_, hCs107.lc.B, ?_⟩
      · show xBT g107 12 eb (((exP L L.length ++ (if L.length = 0 then xTxt 3 else xTxt 2)) ++ xTxt 4) ++ xTxt (5 + e2))
        rw [es]
        exact hc107.1
      · exact ((hF.tr (hc90.2.tr hc96.2)).a12.tr ((hc101.2.fr hCs96.kao6).a6.tr hc107.2.a12)).sub (fun _ h => h) (by omega)
    · replace hb78 : L.length = 0 := (nI_eq (a := L.length) (b := 0) (by omega) (by omega)).mp hb78
      have hz : L.length = 0 := by omega
      have es : (if L.length = 0 then xTxt 3 else xTxt 2) = xTxt 3 := if_pos hz
      refine xw_ldcwS (i := 3) (pc := 81) dX1_explain_81 rfl ?_
      refine xw_goto (pc := 84) 90 dX1_explain_84 rfl ?_
      refine xw_callF (pc := 90) (xr_V (as := [_]) ok_J8_append rfl (by decide) q2147 q255 q256 (by first | (rw [hBI.tag]; rfl) | (rw [hc90.1.tag]; rfl) | (rw [hc96.1.tag]; rfl) | (rw [hB101.tag]; rfl) | (rw [hc107.1.tag]; rfl)) (by first | (rw [hBI.tag]; rfl) | (rw [hc90.1.tag]; rfl) | (rw [hc96.1.tag]; rfl) | (rw [hB101.tag]; rfl) | (rw [hc107.1.tag]; rfl)) dX1_explain_90 rfl rfl (Nat.le_of_ble_eq_true rfl)) (SP_J8_appT (i := 3) hBI (by decide) hSC0 (by decide) (by have := l3; omega)) ?_
      intro g90 hc90 hm90
      have hCs90 := hCs0.frO hc90.2 (by unfold oEq; omega) (by unfold oEq; omega) (by unfold oEq; omega) (fun o h1 h2 => by have := hM.P.p0; unfold oP at h1; unfold oEq at h2; omega)
      have hSC90 := hSC0.fr hc90.2 (by unfold oEq; omega)
      have hcn90 := hcn0.fr hc90.2 (by unfold oEq; omega)
      have tx90 : xtag g90 x = 1 := hCs90.tx
      have tk90 : xtag g90 lk = 4 := hCs90.lt
      have te90 : xr g90 x 10 = some eb := (hc90.2.r' (xlt (by rw [hCs0.tx]; decide)) (by rw [hCs0.ox]; unfold oEq; omega)).trans te0
      refine xw_ldcwS (i := 4) (pc := 93) dX1_explain_93 rfl ?_
      refine xw_callF (pc := 96) (xr_V (as := [_]) ok_J8_append rfl (by decide) q2147 q255 q256 (by first | (rw [hBI.tag]; rfl) | (rw [hc90.1.tag]; rfl) | (rw [hc96.1.tag]; rfl) | (rw [hB101.tag]; rfl) | (rw [hc107.1.tag]; rfl)) (by first | (rw [hBI.tag]; rfl) | (rw [hc90.1.tag]; rfl) | (rw [hc96.1.tag]; rfl) | (rw [hB101.tag]; rfl) | (rw [hc107.1.tag]; rfl)) dX1_explain_96 rfl rfl (Nat.le_of_ble_eq_true rfl)) (SP_J8_appT (i := 4) hc90.1 (by decide) hSC90 (by decide) (by rw [List.length_append]; omega)) ?_
      intro g96 hc96 hm96
      have hCs96 := hCs90.frO hc96.2 (by unfold oEq; omega) (by unfold oEq; omega) (by unfold oEq; omega) (fun o h1 h2 => by have := hM.P.p0; unfold oP at h1; unfold oEq at h2; omega)
      have hSC96 := hSC90.fr hc96.2 (by unfold oEq; omega)
      have hcn96 := hcn90.fr hc96.2 (by unfold oEq; omega)
      have tx96 : xtag g96 x = 1 := hCs96.tx
      have tk96 : xtag g96 lk = 4 := hCs96.lt
      have te96 : xr g96 x 10 = some eb := (hc96.2.r' (xlt (by rw [hCs90.tx]; decide)) (by rw [hCs90.ox]; unfold oEq; omega)).trans te90
      refine xw_aload (pc := 99) dX1_explain_99 2 rfl ?_
      refine xw_callF (pc := 101) (xr_V (as := []) ok_X5_outcome rfl (by decide) q746 q747 q748 (by first | (rw [tk0]; rfl) | (rw [tk90]; rfl) | (rw [tk96]; rfl) | (rw [tk101]; rfl) | (rw [tk107]; rfl)) (by first | (rw [tk0]; rfl) | (rw [tk90]; rfl) | (rw [tk96]; rfl) | (rw [tk101]; rfl) | (rw [tk107]; rfl)) dX1_explain_101 rfl rfl (Nat.le_of_ble_eq_true rfl)) (SP_X5_outcome (d := d + 32) hCs96) ?_
      intro g101 hc101 hm101
      have hF101 : xFr (oEq 6) 0 g96 g101 := hc101.2.fr hCs96.kao6
      have hB101 : xBT g101 12 eb _ := hc96.1.fr hF101 (by unfold oEq; omega)
      have hCs101 := hc101.1
      have hSC101 := hSC96.fr hF101 (by unfold oEq; omega)
      have hcn101 := hcn96.fr hF101 (by unfold oEq; omega)
      have tx101 : xtag g101 x = 1 := hCs101.tx
      have tk101 : xtag g101 lk = 4 := hCs101.lt
      have te101 : xr g101 x 10 = some eb := (hF101.r' (xlt (by rw [hCs96.tx]; decide)) (by rw [hCs96.ox]; unfold oEq; omega)).trans te96
      rw [show effO g96 (ocm (S 1) (hld (isPa (S 1)) rr (cov (S 1) (-1) k day feats)) rr k) = effO g101 (ocm (S 1) (hld (isPa (S 1)) rr (cov (S 1) (-1) k day feats)) rr k) from (effO_fr hF101 _).symm]
      refine xw_wordE (pc := 104) hcn101 ⟨e, he, hoe⟩ dX1_explain_104 q2151 (Nat.le_of_ble_eq_true rfl) ?_
      intro e2 he2 hv2
      have ee : e2 = e := by
        have h9 := hoe.symm.trans hv2
        exact ((nI_eq (a := e) (b := e2) (by omega) (by omega)).mp h9).symm
      subst ee
      refine xw_callF (pc := 107) (xr_V (as := [_]) ok_J8_append rfl (by decide) q2147 q255 q256 (by first | (rw [hBI.tag]; rfl) | (rw [hc90.1.tag]; rfl) | (rw [hc96.1.tag]; rfl) | (rw [hB101.tag]; rfl) | (rw [hc107.1.tag]; rfl)) (by first | (rw [hBI.tag]; rfl) | (rw [hc90.1.tag]; rfl) | (rw [hc96.1.tag]; rfl) | (rw [hB101.tag]; rfl) | (rw [hc107.1.tag]; rfl)) dX1_explain_107 rfl rfl (Nat.le_of_ble_eq_true rfl)) (SP_J8_appT (i := 5 + e2) hB101 (by decide) hSC101 (by omega) (by have h9 := lw e2 he2; simp only [List.length_append] at *; omega)) ?_
      intro g107 hc107 hm107
      have hCs107 := hCs101.frO hc107.2 (by unfold oEq; omega) (by unfold oEq; omega) (by unfold oEq; omega) (fun o h1 h2 => by have := hM.P.p0; unfold oP at h1; unfold oEq at h2; omega)
      have hSC107 := hSC101.fr hc107.2 (by unfold oEq; omega)
      have hcn107 := hcn101.fr hc107.2 (by unfold oEq; omega)
      have tx107 : xtag g107 x = 1 := hCs107.tx
      have tk107 : xtag g107 lk = 4 := hCs107.lt
      have te107 : xr g107 x 10 = some eb := (hc107.2.r' (xlt (by rw [hCs101.tx]; decide)) (by rw [hCs101.ox]; unfold oEq; omega)).trans te101
      refine xw_pop (pc := 110) dX1_explain_110 rfl ?_
      refine xw_aload_n (pc := 111) dX1_explain_111 3 rfl ?_
      refine xw_getS (b := eb) (pc := 112) fd_X1_55 dX1_explain_112 (by first | assumption | (simp [-List.getD_eq_getElem?_getD, xE_setI, xsz_setI, xsl_setI, xtag_setI, xown_setI, xlen_setI, xE_setR, xsz_setR, xsl_setR, xtag_setR, xown_setR, xlen_setR, xE_setW, xsz_setW, xsl_setW, xtag_setW, xown_setW, xlen_setW, xi_setR, xi_setW, xr_setI, xr_setW, xww_setI, xww_setR, xi_setI, xr_setR, xww_setW, xE_new, xsz_new, xsl_new, tx0, te0, tk0, tx90, te90, tk90, tx96, te96, tk96, tx101, te101, tk101, tx107, te107, tk107, xsub]; done) | (simp [-List.getD_eq_getElem?_getD, xE_setI, xsz_setI, xsl_setI, xtag_setI, xown_setI, xlen_setI, xE_setR, xsz_setR, xsl_setR, xtag_setR, xown_setR, xlen_setR, xE_setW, xsz_setW, xsl_setW, xtag_setW, xown_setW, xlen_setW, xi_setR, xi_setW, xr_setI, xr_setW, xww_setI, xww_setR, xi_setI, xr_setR, xww_setW, xE_new, xsz_new, xsl_new, tx0, te0, tk0, tx90, te90, tk90, tx96, te96, tk96, tx101, te101, tk101, tx107, te107, tk107] <;> rfl)) (by simp [-List.getD_eq_getElem?_getD, xE_setI, xsz_setI, xsl_setI, xtag_setI, xown_setI, xlen_setI, xE_setR, xsz_setR, xsl_setR, xtag_setR, xown_setR, xlen_setR, xE_setW, xsz_setW, xsl_setW, xtag_setW, xown_setW, xlen_setW, xi_setR, xi_setW, xr_setI, xr_setW, xww_setI, xww_setR, xi_setI, xr_setR, xww_setW, xE_new, xsz_new, xsl_new, tx0, te0, tk0, tx90, te90, tk90, tx96, te96, tk96, tx101, te101, tk101, tx107, te107, tk107]) ?_
      refine xw_callV (pc := 115) (xr_V (as := []) ok_J8_length rfl (by decide) q1809 q421 q2779 (by first | (rw [hBI.tag]; rfl) | (rw [hc90.1.tag]; rfl) | (rw [hc96.1.tag]; rfl) | (rw [hB101.tag]; rfl) | (rw [hc107.1.tag]; rfl)) (by first | (rw [hBI.tag]; rfl) | (rw [hc90.1.tag]; rfl) | (rw [hc96.1.tag]; rfl) | (rw [hB101.tag]; rfl) | (rw [hc107.1.tag]; rfl)) dX1_explain_115 rfl rfl (Nat.le_of_ble_eq_true rfl)) (SP_J8_len hc107.1.d) ?_
      refine xw_iret (pc := 118) .int dX1_explain_118 rfl ?_ 
      rw [show (nI ((exP L L.length ++ _ ++ xTxt 4) ++ xTxt (5 + e2)).length) = nI (exT L e2).length from by unfold exT; rw [es]]
      refine ⟨rfl, ?_, hCs107.lc.B, ?_⟩
      · show xBT g107 12 eb (((exP L L.length ++ (if L.length = 0 then xTxt 3 else xTxt 2)) ++ xTxt 4) ++ xTxt (5 + e2))
        rw [es]
        exact hc107.1
      · exact ((hF.tr (hc90.2.tr hc96.2)).a12.tr ((hc101.2.fr hCs96.kao6).a6.tr hc107.2.a12)).sub (fun _ h => h) (by omega)
theorem SP_X1_explain_F1 {d : Nat} {g : xG} {x p lk fa ka la n rr ww : Nat} {Z : xAd} {S : xMS} (hM : xMn g x p lk fa ka la Z S n rr ww) {a b c : Int32} (hv : ¬ inR a (nI 0) (nI n - nI 1) = true) : XM M_X1_explain (d + 80) [.ref x, .int a, .int b, .int c] g (xThr (xsz g) (xExc g 23)) := by
  refine xm_of (by decide +kernel) (Nat.le_of_ble_eq_true rfl) ?_
  show XW _ _ 0 [(0, _), (1, _), (2, _), (3, _)] [] _ _
  refine xw_aload_n (pc := 0) dX1_explain_0 0 rfl ?_
  refine xw_iload_n (pc := 1) dX1_explain_1 1 rfl ?_
  refine xw_iload_n (pc := 2) dX1_explain_2 2 rfl ?_
  refine xw_iload_n (pc := 3) dX1_explain_3 3 rfl ?_
  refine xw_callX (pc := 4) (xr_V (as := [_, _, _]) ok_X1_looked rfl (by decide) q1512 q1514 qs26 (by rw [hM.tx]; rfl) (by rw [hM.tx]; rfl) dX1_explain_4 rfl rfl (Nat.le_of_ble_eq_true rfl)) (SP_X1_looked_F1 hM.tx hM.xp hM.P hv) ?_
  exact xx_out0 rfl (by rw [xExc_tag]; decide) (by rw [xExc_tag]; decide) (by rw [xExc_own]; decide) ⟨rfl, rfl⟩

theorem SP_X1_explain_F2 {d : Nat} {g : xG} {x p lk fa ka la n rr ww : Nat} {Z : xAd} {S : xMS} (hM : xMn g x p lk fa ka la Z S n rr ww) {k : Nat} {b c : Int32} (hk : k < n) (hcs : isCs b c = false) : XM M_X1_explain (d + 80) [.ref x, .int (nI k), .int b, .int c] g (xThr (xsz g) (xExc g 22)) := by
  refine xm_of (by decide +kernel) (Nat.le_of_ble_eq_true rfl) ?_
  show XW _ _ 0 [(0, _), (1, _), (2, _), (3, _)] [] _ _
  refine xw_aload_n (pc := 0) dX1_explain_0 0 rfl ?_
  refine xw_iload_n (pc := 1) dX1_explain_1 1 rfl ?_
  refine xw_iload_n (pc := 2) dX1_explain_2 2 rfl ?_
  refine xw_iload_n (pc := 3) dX1_explain_3 3 rfl ?_
  refine xw_callX (pc := 4) (xr_V (as := [_, _, _]) ok_X1_looked rfl (by decide) q1512 q1514 qs26 (by rw [hM.tx]; rfl) (by rw [hM.tx]; rfl) dX1_explain_4 rfl rfl (Nat.le_of_ble_eq_true rfl)) (SP_X1_looked_F2 hM.tx hM.xp hM.P hk hcs) ?_
  exact xx_out0 rfl (by rw [xExc_tag]; decide) (by rw [xExc_tag]; decide) (by rw [xExc_own]; decide) ⟨rfl, rfl⟩

theorem SP_X1_explain {d : Nat} {g : xG} {x p lk fa ka la n rr ww : Nat} {Z : xAd} {S : xMS} (hM : xMn g x p lk fa ka la Z S n rr ww) {k e eb : Nat} {day feats : Int32} {t0 : List Nat} (hk : k < n) (hcs : isCs day feats = true) (h10 : xr g x 10 = some eb) (hB : xBT g 12 eb t0) (hB0 : t0.length ≤ 1000) (hSC : xSC g) (hDg : xDig g) (he : e < 3) (hoe : ocm (S 1) (hld (isPa (S 1)) rr (cov (S 1) (-1) k day feats)) rr k = nI e) : XM M_X1_explain (d + 80) [.ref x, .int (nI k), .int day, .int feats] g (xVal (.int (nI (exT (chn (S 1) (cov (S 1) (-1) k day feats) (hld (isPa (S 1)) rr (cov (S 1) (-1) k day feats)) rr) e).length)) (fun g' => xBT g' 12 eb (exT (chn (S 1) (cov (S 1) (-1) k day feats) (hld (isPa (S 1)) rr (cov (S 1) (-1) k day feats)) rr) e) ∧ xLb g' x lk fa ka la ∧ xFr o612 17000 g g')) := by
  refine xm_of (by decide +kernel) (Nat.le_of_ble_eq_true rfl) ?_
  show XW _ _ 0 [(0, _), (1, _), (2, _), (3, _)] [] _ _
  refine xw_aload_n (pc := 0) dX1_explain_0 0 rfl ?_
  refine xw_iload_n (pc := 1) dX1_explain_1 1 rfl ?_
  refine xw_iload_n (pc := 2) dX1_explain_2 2 rfl ?_
  refine xw_iload_n (pc := 3) dX1_explain_3 3 rfl ?_
  refine xw_callF (pc := 4) (xr_V (as := [_, _, _]) ok_X1_looked rfl (by decide) q1512 q1514 qs26 (by rw [hM.tx]; rfl) (by rw [hM.tx]; rfl) dX1_explain_4 rfl rfl (Nat.le_of_ble_eq_true rfl)) (SP_X1_looked hM.tx hM.ox hM.xp hM.P hM.l3 hM.B hk hcs) ?_
  intro g4 hc4 hm4
  have hM4 := hM.fr6 hc4.2 hc4.1.lc.B
  have tx4 : xtag g4 x = 1 := hM4.tx
  have tk4 : xtag g4 lk = 4 := hc4.1.lt
  have te4 : xr g4 x 10 = some eb := (hc4.2.r' (xlt (by rw [hM.tx]; decide)) (by rw [hM.ox]; unfold oEq; omega)).trans h10
  have hB4 := hB.fr hc4.2 (by unfold oEq; omega)
  have hSC4 := hSC.fr hc4.2 (by unfold oEq; omega)
  have hDg4 := hDg.fr hc4.2 (by unfold oEq; omega)
  refine xw_astore (l' := [(4, _), (0, _), (1, _), (2, _), (3, _)]) (pc := 7) dX1_explain_7 (by decide) rfl ?_
  refine xw_aload_n (pc := 9) dX1_explain_9 1 rfl ?_
  refine xw_getS (b := eb) (pc := 10) fd_X1_55 dX1_explain_10 (by first | assumption | (simp [-List.getD_eq_getElem?_getD, xE_setI, xsz_setI, xsl_setI, xtag_setI, xown_setI, xlen_setI, xE_setR, xsz_setR, xsl_setR, xtag_setR, xown_setR, xlen_setR, xE_setW, xsz_setW, xsl_setW, xtag_setW, xown_setW, xlen_setW, xi_setR, xi_setW, xr_setI, xr_setW, xww_setI, xww_setR, xi_setI, xr_setR, xww_setW, xE_new, xsz_new, xsl_new, hM.tx, hM.xp, hM.l3, tx4, te4, tk4, xsub]; done) | (simp [-List.getD_eq_getElem?_getD, xE_setI, xsz_setI, xsl_setI, xtag_setI, xown_setI, xlen_setI, xE_setR, xsz_setR, xsl_setR, xtag_setR, xown_setR, xlen_setR, xE_setW, xsz_setW, xsl_setW, xtag_setW, xown_setW, xlen_setW, xi_setR, xi_setW, xr_setI, xr_setW, xww_setI, xww_setR, xi_setI, xr_setR, xww_setW, xE_new, xsz_new, xsl_new, hM.tx, hM.xp, hM.l3, tx4, te4, tk4] <;> rfl)) (by simp [-List.getD_eq_getElem?_getD, xE_setI, xsz_setI, xsl_setI, xtag_setI, xown_setI, xlen_setI, xE_setR, xsz_setR, xsl_setR, xtag_setR, xown_setR, xlen_setR, xE_setW, xsz_setW, xsl_setW, xtag_setW, xown_setW, xlen_setW, xi_setR, xi_setW, xr_setI, xr_setW, xww_setI, xww_setR, xi_setI, xr_setR, xww_setW, xE_new, xsz_new, xsl_new, hM.tx, hM.xp, hM.l3, tx4, te4, tk4]) ?_
  refine xw_iconst (v := nI 0) (pc := 13) dX1_explain_13 rfl ?_
  refine xw_callH (pc := 14) (xr_V (as := [_]) ok_J8_setLength rfl (by decide) q2079 q2080 q2081 (by rw [hB4.tag]; rfl) (by rw [hB4.tag]; rfl) dX1_explain_14 rfl rfl (Nat.le_of_ble_eq_true rfl)) (SP_J8_setT (d := d + 73) hB4 (by decide) (by omega)) ?_
  intro g14 hc14 hm14
  have hM14 := hM4.fr12 hc14.2
  have hCs14 := hc4.1.frO hc14.2 (by unfold oEq; omega) (by unfold oEq; omega) (by unfold oEq; omega) (fun o h1 h2 => by have := hM.P.p0; unfold oP at h1; unfold oEq at h2; omega)
  have tk14 : xtag g14 lk = 4 := hCs14.lt
  have te14 : xr g14 x 10 = some eb := (hc14.2.r' (xlt (by rw [hM4.tx]; decide)) (by rw [hM4.ox]; unfold oEq; omega)).trans te4
  have hSC14 := hSC4.fr hc14.2 (by unfold oEq; omega)
  have hDg14 := hDg4.fr hc14.2 (by unfold oEq; omega)
  refine xw_aload (pc := 17) dX1_explain_17 0 rfl ?_
  refine xw_callF (pc := 19) (xr_V (as := []) ok_X5_chain rfl (by decide) q1558 q873 q874 (by first | (rw [tk4]; rfl) | (rw [tk14]; rfl)) (by first | (rw [tk4]; rfl) | (rw [tk14]; rfl)) dX1_explain_19 rfl rfl (Nat.le_of_ble_eq_true rfl)) (SP_X5_chain (d := d + 15) hCs14) ?_
  intro g19 hc19 hm19
  obtain ⟨hCs19, hF19, hL5, hla⟩ := hc19
  have hM19 := hM14.fr6 hF19 hCs19.lc.B
  have te19 : xr g19 x 10 = some eb := (hF19.r' (xlt (by rw [hM14.tx]; decide)) (by rw [hM14.ox]; unfold oEq; omega)).trans te14
  have hSC19 := hSC14.fr hF19 (by unfold oEq; omega)
  have hDg19 := hDg14.fr hF19 (by unfold oEq; omega)
  have hB19 := hc14.1.fr hF19 (by unfold oEq; omega)
  refine xw_istore (l' := [(5, _), (4, _), (0, _), (1, _), (2, _), (3, _)]) (pc := 22) dX1_explain_22 (by decide) rfl ?_
  refine xw_iconst (v := nI 0) (pc := 24) dX1_explain_24 rfl ?_
  refine xw_istore (l' := [(6, _), (5, _), (4, _), (0, _), (1, _), (2, _), (3, _)]) (pc := 25) dX1_explain_25 (by decide) rfl ?_
  refine lp_X1_explain hM19 hk (L := (chn (S 1) (cov (S 1) (-1) k day feats) (hld (isPa (S 1)) rr (cov (S 1) (-1) k day feats)) rr)) rfl (eb := eb) (xlt (by rw [hB19.tag]; decide)) te19 hDg19 hSC19 (fun gi a1 a2 a3 => (end_X1_explain hM19 te19 hSC19 he hoe hL5 gi a1 a2 a3).mono (fun rs g' h9 _ => ?_)) hL5 ((chn (S 1) (cov (S 1) (-1) k day feats) (hld (isPa (S 1)) rr (cov (S 1) (-1) k day feats)) rr).length + 1) 0 g19 (by omega) (by omega) hCs19 hB19 hla xFr.rf
  obtain ⟨e1, e2, e3, e4⟩ := h9
  exact ⟨e1, e2, e3, (((hc4.2.a6.tr hc14.2.a12).tr hF19.a6).tr e4).sub (fun _ h => h) (by omega)⟩

