/-! CLASS 68: floats -/
set_option maxRecDepth 100000
theorem WFS.br {s : Nat → Int32} {n rr ww : Nat} (h : WFS s n rr ww) : brOk (fun r => s (23 + 20 * r + 6)) rr := fun r hr => by
  obtain ⟨h1, h2⟩ := (h.ru hr).2.2.2.2.1
  exact ⟨_, by omega, h1⟩
/-- a row put into its place -/
def xRwC (O : Nat → Prop) (g : xG) (rw0 t many : Nat) (v : Nat → Int32) (N : Nat) (g' : xG) : Prop := ∃ A, xsz g ≤ A ∧ xr g' rw0 t = some A ∧ xtag g' A = 105 ∧ xown g' A = 10 ∧ xlen g' A = many ∧ (∀ j, j < many → xi g' A j = v j) ∧ (∀ r, r ≠ t → xr g' rw0 r = xr g rw0 r) ∧ xFr (fun o => o = 16 ∨ O o) N g g'
theorem xRwC.of {O : Nat → Prop} {g gk : xG} {rw0 t many A N : Nat} {v : Nat → Int32} (hrw : xtag g rw0 = 114) (hro : xown g rw0 = 16) (hO : ¬ O 16) (hA : xsz g ≤ A) (a1 : xtag gk A = 105) (a2 : xown gk A = 10) (a3 : xlen gk A = many) (a4 : ∀ j, j < many → xi gk A j = v j) (F : xFr O N g gk) : xRwC O g rw0 t many v N (xsetR gk rw0 t (some A)) := by
  have hl : rw0 < xsz g := xlt (by rw [hrw]; decide)
  have hn : A ≠ rw0 := by omega
  have e : xc (xsetR gk rw0 t (some A)) A = xc gk A := xc_setR hn
  refine ⟨A, hA, xr_setRS (by rw [F.tag hl, hrw]; decide), xtag_setR.trans a1, xown_setR.trans a2, xlen_setR.trans a3, fun j hj => (xi_of e j).trans (a4 j hj), fun r hr => (xr_setRK hr).trans (F.r' hl (by rw [hro]; exact hO)), ?_⟩
  exact ((F.sub (O' := fun o => o = 16 ∨ O o) (fun o h => Or.inr h) (Nat.le_refl _)).sr (Or.inr (Or.inl ((F.own hl).trans hro))))

theorem lp_X5_burden {d : Nat} {x lk fa ka la p n rr ww k : Nat} {Z : xAd} {s : Nat → Int32} {day feats wo : Int32} {H : Nat → Bool} {g0 : xG} : ∀ (j i : Nat) (g : xG), rr - i < j → i ≤ rr → xCs g x lk fa ka la p Z s n rr ww k day feats wo H → xOnly ka g0 g → XW M_X5_burden (d + 46) 4 [(2, .int (nI i)), (1, .float (brF H (fun r => s (23 + 20 * r + 6)) i)), (0, .ref lk)] [] g (xVal (.float (brV H (fun r => s (23 + 20 * r + 6)) rr)) (fun g' => xCs g' x lk fa ka la p Z s n rr ww k day feats wo H ∧ xOnly ka g0 g')) := by
  intro j
  induction j with
  | zero => intro i g h; omega
  | succ j ih =>
    intro i g hij hi2 hX hO
    have r16 := hX.P.wf.r16
    have lr := hX.P.lr
    have hf := hX.P.wf.br
    have hti : i < rr → xtag g (((aR Z).getD i 0)) = 6 ∨ xtag g (((aR Z).getD i 0)) = 7 := fun hi => (hX.P.ru hi).1
    refine xw_iload_n (pc := 4) dX5_burden_4 0 rfl ?_
    refine xw_aload_n (pc := 5) dX5_burden_5 2 rfl ?_
    refine xw_getS (b := x) (pc := 6) fd_X5_3 dX5_burden_6 (by first | assumption | (simp [-List.getD_eq_getElem?_getD, xE_setI, xsz_setI, xsl_setI, xtag_setI, xown_setI, xlen_setI, xE_setR, xsz_setR, xsl_setR, xtag_setR, xown_setR, xlen_setR, xE_setW, xsz_setW, xsl_setW, xtag_setW, xown_setW, xlen_setW, xi_setR, xi_setW, xr_setI, xr_setW, xww_setI, xww_setR, xi_setI, xr_setR, xww_setW, xE_new, xsz_new, xsl_new, hX.tx, hX.xp, hX.P.tag, hX.P.f0, hX.P.f1, hX.P.f2, hX.lt, hX.l0, hX.l1, hX.l5, hX.l2, hX.l7, hX.fat, hX.kat, hX.lat, hX.kao, xsub]; done) | (simp [-List.getD_eq_getElem?_getD, xE_setI, xsz_setI, xsl_setI, xtag_setI, xown_setI, xlen_setI, xE_setR, xsz_setR, xsl_setR, xtag_setR, xown_setR, xlen_setR, xE_setW, xsz_setW, xsl_setW, xtag_setW, xown_setW, xlen_setW, xi_setR, xi_setW, xr_setI, xr_setW, xww_setI, xww_setR, xi_setI, xr_setR, xww_setW, xE_new, xsz_new, xsl_new, hX.tx, hX.xp, hX.P.tag, hX.P.f0, hX.P.f1, hX.P.f2, hX.lt, hX.l0, hX.l1, hX.l5, hX.l2, hX.l7, hX.fat, hX.kat, hX.lat, hX.kao] <;> rfl)) (by simp [-List.getD_eq_getElem?_getD, xE_setI, xsz_setI, xsl_setI, xtag_setI, xown_setI, xlen_setI, xE_setR, xsz_setR, xsl_setR, xtag_setR, xown_setR, xlen_setR, xE_setW, xsz_setW, xsl_setW, xtag_setW, xown_setW, xlen_setW, xi_setR, xi_setW, xr_setI, xr_setW, xww_setI, xww_setR, xi_setI, xr_setR, xww_setW, xE_new, xsz_new, xsl_new, hX.tx, hX.xp, hX.P.tag, hX.P.f0, hX.P.f1, hX.P.f2, hX.lt, hX.l0, hX.l1, hX.l5, hX.l2, hX.l7, hX.fat, hX.kat, hX.lat, hX.kao]) ?_
    refine xw_getS (b := p) (pc := 9) fd_X5_25 dX5_burden_9 (by first | assumption | (simp [-List.getD_eq_getElem?_getD, xE_setI, xsz_setI, xsl_setI, xtag_setI, xown_setI, xlen_setI, xE_setR, xsz_setR, xsl_setR, xtag_setR, xown_setR, xlen_setR, xE_setW, xsz_setW, xsl_setW, xtag_setW, xown_setW, xlen_setW, xi_setR, xi_setW, xr_setI, xr_setW, xww_setI, xww_setR, xi_setI, xr_setR, xww_setW, xE_new, xsz_new, xsl_new, hX.tx, hX.xp, hX.P.tag, hX.P.f0, hX.P.f1, hX.P.f2, hX.lt, hX.l0, hX.l1, hX.l5, hX.l2, hX.l7, hX.fat, hX.kat, hX.lat, hX.kao, xsub]; done) | (simp [-List.getD_eq_getElem?_getD, xE_setI, xsz_setI, xsl_setI, xtag_setI, xown_setI, xlen_setI, xE_setR, xsz_setR, xsl_setR, xtag_setR, xown_setR, xlen_setR, xE_setW, xsz_setW, xsl_setW, xtag_setW, xown_setW, xlen_setW, xi_setR, xi_setW, xr_setI, xr_setW, xww_setI, xww_setR, xi_setI, xr_setR, xww_setW, xE_new, xsz_new, xsl_new, hX.tx, hX.xp, hX.P.tag, hX.P.f0, hX.P.f1, hX.P.f2, hX.lt, hX.l0, hX.l1, hX.l5, hX.l2, hX.l7, hX.fat, hX.kat, hX.lat, hX.kao] <;> rfl)) (by simp [-List.getD_eq_getElem?_getD, xE_setI, xsz_setI, xsl_setI, xtag_setI, xown_setI, xlen_setI, xE_setR, xsz_setR, xsl_setR, xtag_setR, xown_setR, xlen_setR, xE_setW, xsz_setW, xsl_setW, xtag_setW, xown_setW, xlen_setW, xi_setR, xi_setW, xr_setI, xr_setW, xww_setI, xww_setR, xi_setI, xr_setR, xww_setW, xE_new, xsz_new, xsl_new, hX.tx, hX.xp, hX.P.tag, hX.P.f0, hX.P.f1, hX.P.f2, hX.lt, hX.l0, hX.l1, hX.l5, hX.l2, hX.l7, hX.fat, hX.kat, hX.lat, hX.kao]) ?_
    refine xw_getS (b := (aL Z 2)) (pc := 12) fd_X5_92 dX5_burden_12 (by first | assumption | (simp [-List.getD_eq_getElem?_getD, xE_setI, xsz_setI, xsl_setI, xtag_setI, xown_setI, xlen_setI, xE_setR, xsz_setR, xsl_setR, xtag_setR, xown_setR, xlen_setR, xE_setW, xsz_setW, xsl_setW, xtag_setW, xown_setW, xlen_setW, xi_setR, xi_setW, xr_setI, xr_setW, xww_setI, xww_setR, xi_setI, xr_setR, xww_setW, xE_new, xsz_new, xsl_new, hX.tx, hX.xp, hX.P.tag, hX.P.f0, hX.P.f1, hX.P.f2, hX.lt, hX.l0, hX.l1, hX.l5, hX.l2, hX.l7, hX.fat, hX.kat, hX.lat, hX.kao, xsub]; done) | (simp [-List.getD_eq_getElem?_getD, xE_setI, xsz_setI, xsl_setI, xtag_setI, xown_setI, xlen_setI, xE_setR, xsz_setR, xsl_setR, xtag_setR, xown_setR, xlen_setR, xE_setW, xsz_setW, xsl_setW, xtag_setW, xown_setW, xlen_setW, xi_setR, xi_setW, xr_setI, xr_setW, xww_setI, xww_setR, xi_setI, xr_setR, xww_setW, xE_new, xsz_new, xsl_new, hX.tx, hX.xp, hX.P.tag, hX.P.f0, hX.P.f1, hX.P.f2, hX.lt, hX.l0, hX.l1, hX.l5, hX.l2, hX.l7, hX.fat, hX.kat, hX.lat, hX.kao] <;> rfl)) (by simp [-List.getD_eq_getElem?_getD, xE_setI, xsz_setI, xsl_setI, xtag_setI, xown_setI, xlen_setI, xE_setR, xsz_setR, xsl_setR, xtag_setR, xown_setR, xlen_setR, xE_setW, xsz_setW, xsl_setW, xtag_setW, xown_setW, xlen_setW, xi_setR, xi_setW, xr_setI, xr_setW, xww_setI, xww_setR, xi_setI, xr_setR, xww_setW, xE_new, xsz_new, xsl_new, hX.tx, hX.xp, hX.P.tag, hX.P.f0, hX.P.f1, hX.P.f2, hX.lt, hX.l0, hX.l1, hX.l5, hX.l2, hX.l7, hX.fat, hX.kat, hX.lat, hX.kao]) ?_
    refine xw_callV (pc := 15) (xr_V (as := []) ok_J2_size rfl (by decide) q754 q702 q703 (by first | (rw [hX.P.l1.1]; rfl) | (rw [hc41.1.P.l1.1]; rfl)) (by first | (rw [hX.P.l1.1]; rfl) | (rw [hc41.1.P.l1.1]; rfl)) dX5_burden_15 rfl rfl (Nat.le_of_ble_eq_true rfl)) (SP_J2_size hX.P.l1) ?_
    refine xw_icmp_ge (pc := 18) 64 dX5_burden_18 rfl (fun hb18 => ?_) (fun hb18 => ?_)
    · replace hb18 : (aR Z).length ≤ i := (nI_leI (a := (aR Z).length) (b := i) (by omega) (by omega)).mp hb18
      refine xw_fload_n (pc := 64) dX5_burden_64 1 rfl ?_
      refine xw_ldcf (pc := 65) dX5_burden_65 q1615 ?_
      refine xw_fcmp (pc := 67) dX5_burden_67 ?_
      refine xw_if_le (pc := 68) 76 dX5_burden_68 rfl (fun hb68 => ?_) (fun hb68 => ?_)
      · refine xw_fload_n (pc := 76) dX5_burden_76 1 rfl ?_
        refine xw_fret (pc := 77) dX5_burden_77 rfl ?_
        have ei : i = rr := by omega
        subst ei
        first
        | exact ⟨by unfold brV; rw [if_pos hb68], hX, hO⟩
        | exact ⟨by unfold brV; rw [if_neg hb68], hX, hO⟩
      · refine xw_ldcf (pc := 71) dX5_burden_71 q1615 ?_
        refine xw_goto (pc := 73) 77 dX5_burden_73 rfl ?_
        refine xw_fret (pc := 77) dX5_burden_77 rfl ?_
        have ei : i = rr := by omega
        subst ei
        first
        | exact ⟨by unfold brV; rw [if_pos hb68], hX, hO⟩
        | exact ⟨by unfold brV; rw [if_neg hb68], hX, hO⟩
    · replace hb18 : ¬ ((aR Z).length ≤ i) := mt (nI_leI (a := (aR Z).length) (b := i) (by omega) (by omega)).mpr hb18
      have hil : i < rr := by omega
      refine xw_aload_n (pc := 21) dX5_burden_21 2 rfl ?_
      refine xw_getS (b := x) (pc := 22) fd_X5_3 dX5_burden_22 (by first | assumption | (simp [-List.getD_eq_getElem?_getD, xE_setI, xsz_setI, xsl_setI, xtag_setI, xown_setI, xlen_setI, xE_setR, xsz_setR, xsl_setR, xtag_setR, xown_setR, xlen_setR, xE_setW, xsz_setW, xsl_setW, xtag_setW, xown_setW, xlen_setW, xi_setR, xi_setW, xr_setI, xr_setW, xww_setI, xww_setR, xi_setI, xr_setR, xww_setW, xE_new, xsz_new, xsl_new, hX.tx, hX.xp, hX.P.tag, hX.P.f0, hX.P.f1, hX.P.f2, hX.lt, hX.l0, hX.l1, hX.l5, hX.l2, hX.l7, hX.fat, hX.kat, hX.lat, hX.kao, xsub]; done) | (simp [-List.getD_eq_getElem?_getD, xE_setI, xsz_setI, xsl_setI, xtag_setI, xown_setI, xlen_setI, xE_setR, xsz_setR, xsl_setR, xtag_setR, xown_setR, xlen_setR, xE_setW, xsz_setW, xsl_setW, xtag_setW, xown_setW, xlen_setW, xi_setR, xi_setW, xr_setI, xr_setW, xww_setI, xww_setR, xi_setI, xr_setR, xww_setW, xE_new, xsz_new, xsl_new, hX.tx, hX.xp, hX.P.tag, hX.P.f0, hX.P.f1, hX.P.f2, hX.lt, hX.l0, hX.l1, hX.l5, hX.l2, hX.l7, hX.fat, hX.kat, hX.lat, hX.kao] <;> rfl)) (by simp [-List.getD_eq_getElem?_getD, xE_setI, xsz_setI, xsl_setI, xtag_setI, xown_setI, xlen_setI, xE_setR, xsz_setR, xsl_setR, xtag_setR, xown_setR, xlen_setR, xE_setW, xsz_setW, xsl_setW, xtag_setW, xown_setW, xlen_setW, xi_setR, xi_setW, xr_setI, xr_setW, xww_setI, xww_setR, xi_setI, xr_setR, xww_setW, xE_new, xsz_new, xsl_new, hX.tx, hX.xp, hX.P.tag, hX.P.f0, hX.P.f1, hX.P.f2, hX.lt, hX.l0, hX.l1, hX.l5, hX.l2, hX.l7, hX.fat, hX.kat, hX.lat, hX.kao]) ?_
      refine xw_getS (b := p) (pc := 25) fd_X5_25 dX5_burden_25 (by first | assumption | (simp [-List.getD_eq_getElem?_getD, xE_setI, xsz_setI, xsl_setI, xtag_setI, xown_setI, xlen_setI, xE_setR, xsz_setR, xsl_setR, xtag_setR, xown_setR, xlen_setR, xE_setW, xsz_setW, xsl_setW, xtag_setW, xown_setW, xlen_setW, xi_setR, xi_setW, xr_setI, xr_setW, xww_setI, xww_setR, xi_setI, xr_setR, xww_setW, xE_new, xsz_new, xsl_new, hX.tx, hX.xp, hX.P.tag, hX.P.f0, hX.P.f1, hX.P.f2, hX.lt, hX.l0, hX.l1, hX.l5, hX.l2, hX.l7, hX.fat, hX.kat, hX.lat, hX.kao, xsub]; done) | (simp [-List.getD_eq_getElem?_getD, xE_setI, xsz_setI, xsl_setI, xtag_setI, xown_setI, xlen_setI, xE_setR, xsz_setR, xsl_setR, xtag_setR, xown_setR, xlen_setR, xE_setW, xsz_setW, xsl_setW, xtag_setW, xown_setW, xlen_setW, xi_setR, xi_setW, xr_setI, xr_setW, xww_setI, xww_setR, xi_setI, xr_setR, xww_setW, xE_new, xsz_new, xsl_new, hX.tx, hX.xp, hX.P.tag, hX.P.f0, hX.P.f1, hX.P.f2, hX.lt, hX.l0, hX.l1, hX.l5, hX.l2, hX.l7, hX.fat, hX.kat, hX.lat, hX.kao] <;> rfl)) (by simp [-List.getD_eq_getElem?_getD, xE_setI, xsz_setI, xsl_setI, xtag_setI, xown_setI, xlen_setI, xE_setR, xsz_setR, xsl_setR, xtag_setR, xown_setR, xlen_setR, xE_setW, xsz_setW, xsl_setW, xtag_setW, xown_setW, xlen_setW, xi_setR, xi_setW, xr_setI, xr_setW, xww_setI, xww_setR, xi_setI, xr_setR, xww_setW, xE_new, xsz_new, xsl_new, hX.tx, hX.xp, hX.P.tag, hX.P.f0, hX.P.f1, hX.P.f2, hX.lt, hX.l0, hX.l1, hX.l5, hX.l2, hX.l7, hX.fat, hX.kat, hX.lat, hX.kao]) ?_
      refine xw_getS (b := (aL Z 2)) (pc := 28) fd_X5_92 dX5_burden_28 (by first | assumption | (simp [-List.getD_eq_getElem?_getD, xE_setI, xsz_setI, xsl_setI, xtag_setI, xown_setI, xlen_setI, xE_setR, xsz_setR, xsl_setR, xtag_setR, xown_setR, xlen_setR, xE_setW, xsz_setW, xsl_setW, xtag_setW, xown_setW, xlen_setW, xi_setR, xi_setW, xr_setI, xr_setW, xww_setI, xww_setR, xi_setI, xr_setR, xww_setW, xE_new, xsz_new, xsl_new, hX.tx, hX.xp, hX.P.tag, hX.P.f0, hX.P.f1, hX.P.f2, hX.lt, hX.l0, hX.l1, hX.l5, hX.l2, hX.l7, hX.fat, hX.kat, hX.lat, hX.kao, xsub]; done) | (simp [-List.getD_eq_getElem?_getD, xE_setI, xsz_setI, xsl_setI, xtag_setI, xown_setI, xlen_setI, xE_setR, xsz_setR, xsl_setR, xtag_setR, xown_setR, xlen_setR, xE_setW, xsz_setW, xsl_setW, xtag_setW, xown_setW, xlen_setW, xi_setR, xi_setW, xr_setI, xr_setW, xww_setI, xww_setR, xi_setI, xr_setR, xww_setW, xE_new, xsz_new, xsl_new, hX.tx, hX.xp, hX.P.tag, hX.P.f0, hX.P.f1, hX.P.f2, hX.lt, hX.l0, hX.l1, hX.l5, hX.l2, hX.l7, hX.fat, hX.kat, hX.lat, hX.kao] <;> rfl)) (by simp [-List.getD_eq_getElem?_getD, xE_setI, xsz_setI, xsl_setI, xtag_setI, xown_setI, xlen_setI, xE_setR, xsz_setR, xsl_setR, xtag_setR, xown_setR, xlen_setR, xE_setW, xsz_setW, xsl_setW, xtag_setW, xown_setW, xlen_setW, xi_setR, xi_setW, xr_setI, xr_setW, xww_setI, xww_setR, xi_setI, xr_setR, xww_setW, xE_new, xsz_new, xsl_new, hX.tx, hX.xp, hX.P.tag, hX.P.f0, hX.P.f1, hX.P.f2, hX.lt, hX.l0, hX.l1, hX.l5, hX.l2, hX.l7, hX.fat, hX.kat, hX.lat, hX.kao]) ?_
      refine xw_iload_n (pc := 31) dX5_burden_31 0 rfl ?_
      refine xw_callV (pc := 32) (xr_V (as := [_]) ok_J2_get rfl (by decide) q740 q706 q707 (by first | (rw [hX.P.l1.1]; rfl) | (rw [hc41.1.P.l1.1]; rfl)) (by first | (rw [hX.P.l1.1]; rfl) | (rw [hc41.1.P.l1.1]; rfl)) dX5_burden_32 rfl rfl (Nat.le_of_ble_eq_true rfl)) (SP_J2_get hX.P.l1 i (by rw [lr]; exact hil)) ?_
      refine xw_chkR (pc := 35) dX5_burden_35 q755 (by exact hti hil) ?_
      refine xw_astore_n (l' := [(3, _), (2, _), (1, _), (0, _)]) (pc := 38) dX5_burden_38 rfl (by decide) rfl ?_
      refine xw_aload_n (pc := 39) dX5_burden_39 3 rfl ?_
      refine xw_aload_n (pc := 40) dX5_burden_40 0 rfl ?_
      refine xw_callF (pc := 41) (xr_V (as := [_]) ok_X5_holds rfl (by decide) q765 q766 q767 (by first | (rw [hX.lt]; rfl) | (rw [hc41.1.lt]; rfl)) (by first | (rw [hX.lt]; rfl) | (rw [hc41.1.lt]; rfl)) dX5_burden_41 rfl rfl (Nat.le_of_ble_eq_true rfl)) (SP_X5_holds (d := d) hX hil) ?_
      intro g41 hc41 hm41
      have hr41 := hc41.1.P.ru hil
      have tb : xsub 90 (xtag g41 (((aR Z).getD i 0))) = true := xRu_x hr41
      have fb : xi g41 (((aR Z).getD i 0)) 5 = s (23 + 20 * i + 6) := hr41.2.2.2.2.2.2.1
      refine xw_if_eq (pc := 44) 58 dX5_burden_44 rfl (fun hb44 => ?_) (fun hb44 => ?_)
      · replace hb44 := bI_0.mp hb44
        refine xw_iinc (v := nI (i + 1)) (l' := [(2, _), (3, _), (1, _), (0, _)]) (pc := 58) dX5_burden_58 1 rfl (nI_add _ 1) (by decide) rfl ?_
        refine xw_goto (pc := 61) 4 dX5_burden_61 rfl ?_
        refine xw_pick (pc := 4) (l' := [(2, _), (1, _), (0, _)]) [0, 2, 3] rfl ?_
        have h9 := ih (i + 1) g41 (by omega) (by omega) hc41.1 (hO.tr hc41.2)
        first
        | (rw [show brF H (fun r => s (23 + 20 * r + 6)) (i + 1) = FP.fdiv (FP.fmul (brF H (fun r => s (23 + 20 * r + 6)) i) (FP.i2f ((fun r => s (23 + 20 * r + 6)) i))) 1120403456 from if_pos hb44] at h9
           exact h9)
        | (rw [show brF H (fun r => s (23 + 20 * r + 6)) (i + 1) = brF H (fun r => s (23 + 20 * r + 6)) i from if_neg (by rw [hb44]; decide)] at h9
           exact h9)
      · replace hb44 := bI_n0.mp hb44
        refine xw_fload_n (pc := 47) dX5_burden_47 2 rfl ?_
        refine xw_aload_n (pc := 48) dX5_burden_48 0 rfl ?_
        refine xw_getI (pc := 49) fd_X5_154 dX5_burden_49 (by first | assumption | (simp [-List.getD_eq_getElem?_getD, xE_setI, xsz_setI, xsl_setI, xtag_setI, xown_setI, xlen_setI, xE_setR, xsz_setR, xsl_setR, xtag_setR, xown_setR, xlen_setR, xE_setW, xsz_setW, xsl_setW, xtag_setW, xown_setW, xlen_setW, xi_setR, xi_setW, xr_setI, xr_setW, xww_setI, xww_setR, xi_setI, xr_setR, xww_setW, xE_new, xsz_new, xsl_new, hX.tx, hX.xp, hX.P.tag, hX.P.f0, hX.P.f1, hX.P.f2, hX.lt, hX.l0, hX.l1, hX.l5, hX.l2, hX.l7, hX.fat, hX.kat, hX.lat, hX.kao, tb, fb, xsub]; done) | (simp [-List.getD_eq_getElem?_getD, xE_setI, xsz_setI, xsl_setI, xtag_setI, xown_setI, xlen_setI, xE_setR, xsz_setR, xsl_setR, xtag_setR, xown_setR, xlen_setR, xE_setW, xsz_setW, xsl_setW, xtag_setW, xown_setW, xlen_setW, xi_setR, xi_setW, xr_setI, xr_setW, xww_setI, xww_setR, xi_setI, xr_setR, xww_setW, xE_new, xsz_new, xsl_new, hX.tx, hX.xp, hX.P.tag, hX.P.f0, hX.P.f1, hX.P.f2, hX.lt, hX.l0, hX.l1, hX.l5, hX.l2, hX.l7, hX.fat, hX.kat, hX.lat, hX.kao, tb, fb] <;> rfl)) ?_
        rw [fb]
        refine xw_i2f (pc := 52) dX5_burden_52 ?_
        refine xw_fmul (pc := 53) dX5_burden_53 (by exact br_mul hf r16 hil) ?_
        refine xw_ldcf (pc := 54) dX5_burden_54 q1614 ?_
        refine xw_fdiv (pc := 56) dX5_burden_56 (by exact br_div hf r16 hil) ?_
        refine xw_fstore_n (l' := [(1, _), (3, _), (2, _), (0, _)]) (pc := 57) dX5_burden_57 rfl (by decide) rfl ?_
        refine xw_iinc (v := nI (i + 1)) (l' := [(2, _), (1, _), (3, _), (0, _)]) (pc := 58) dX5_burden_58 2 rfl (nI_add _ 1) (by decide) rfl ?_
        refine xw_goto (pc := 61) 4 dX5_burden_61 rfl ?_
        refine xw_pick (pc := 4) (l' := [(2, _), (1, _), (0, _)]) [0, 1, 3] rfl ?_
        have h9 := ih (i + 1) g41 (by omega) (by omega) hc41.1 (hO.tr hc41.2)
        first
        | (rw [show brF H (fun r => s (23 + 20 * r + 6)) (i + 1) = FP.fdiv (FP.fmul (brF H (fun r => s (23 + 20 * r + 6)) i) (FP.i2f ((fun r => s (23 + 20 * r + 6)) i))) 1120403456 from if_pos hb44] at h9
           exact h9)
        | (rw [show brF H (fun r => s (23 + 20 * r + 6)) (i + 1) = brF H (fun r => s (23 + 20 * r + 6)) i from if_neg (by rw [hb44]; decide)] at h9
           exact h9)
theorem SP_X5_burden {d : Nat} {g : xG} {x lk fa ka la p n rr ww k : Nat} {Z : xAd} {s : Nat → Int32} {day feats wo : Int32} {H : Nat → Bool} (hX : xCs g x lk fa ka la p Z s n rr ww k day feats wo H) : XM M_X5_burden (d + 46) [.ref lk] g (xVal (.float (brV H (fun r => s (23 + 20 * r + 6)) rr)) (fun g' => xCs g' x lk fa ka la p Z s n rr ww k day feats wo H ∧ xOnly ka g g')) := by
  refine xm_of (by decide +kernel) (Nat.le_of_ble_eq_true rfl) ?_
  show XW _ _ 0 [(0, _)] [] _ _
  refine xw_fconst1 (pc := 0) dX5_burden_0 ?_
  refine xw_fstore_n (l' := [(1, _), (0, _)]) (pc := 1) dX5_burden_1 rfl (by decide) rfl ?_
  refine xw_iconst (v := nI 0) (pc := 2) dX5_burden_2 rfl ?_
  refine xw_istore_n (l' := [(2, _), (1, _), (0, _)]) (pc := 3) dX5_burden_3 rfl (by decide) rfl ?_
  exact lp_X5_burden (rr + 1) 0 g (by omega) (by omega) hX xOnly.rf

theorem SP_X1_burden {d : Nat} {g : xG} {x p lk fa ka la n rr ww : Nat} {Z : xAd} {S : xMS} (hM : xMn g x p lk fa ka la Z S n rr ww) {k : Nat} {day feats : Int32} (hk : k < n) (hcs : isCs day feats = true) : XM M_X1_burden (d + 71) [.ref x, .int (nI k), .int day, .int feats] g (xVal (.float (brV (hld (isPa (S 1)) rr (cov (S 1) (-1) k day feats)) (fun r => S 1 (23 + 20 * r + 6)) rr)) (fun g' => xCs g' x lk fa ka la p Z (S 1) n rr ww k day feats (-1) (hld (isPa (S 1)) rr (cov (S 1) (-1) k day feats)) ∧ xFr (oEq 6) 0 g g')) := by
  refine xm_of (by decide +kernel) (Nat.le_of_ble_eq_true rfl) ?_
  show XW _ _ 0 [(0, _), (1, _), (2, _), (3, _)] [] _ _
  refine xw_aload_n (pc := 0) dX1_burden_0 0 rfl ?_
  refine xw_iload_n (pc := 1) dX1_burden_1 1 rfl ?_
  refine xw_iload_n (pc := 2) dX1_burden_2 2 rfl ?_
  refine xw_iload_n (pc := 3) dX1_burden_3 3 rfl ?_
  refine xw_callF (pc := 4) (xr_V (as := [_, _, _]) ok_X1_looked rfl (by decide) q1512 q1514 qs26 (by rw [hM.tx]; rfl) (by rw [hM.tx]; rfl) dX1_burden_4 rfl rfl (Nat.le_of_ble_eq_true rfl)) (SP_X1_looked hM.tx hM.ox hM.xp hM.P hM.l3 hM.B hk hcs) ?_
  intro g4 hc4 hm4
  refine xw_callF (pc := 7) (xr_V (as := []) ok_X5_burden rfl (by decide) q1610 q1611 q1612 (by first | (rw [hc4.1.lt]; rfl) | (rw [hM.B.lt]; rfl)) (by first | (rw [hc4.1.lt]; rfl) | (rw [hM.B.lt]; rfl)) dX1_burden_7 rfl rfl (Nat.le_of_ble_eq_true rfl)) (SP_X5_burden (d := d + 24) hc4.1) ?_
  intro g7 hc7 hm7
  refine xw_fret (pc := 10) dX1_burden_10 rfl ?_
  exact ⟨rfl, hc7.1, (hc4.2.tr (hc7.2.fr hc4.1.kao6)).sub (fun _ h => h) (Nat.le_refl _)⟩

theorem SP_X1_percent {d : Nat} {g : xG} {x p lk fa ka la n rr ww : Nat} {Z : xAd} {S : xMS} (hM : xMn g x p lk fa ka la Z S n rr ww) {k : Nat} {day feats : Int32} (hk : k < n) (hcs : isCs day feats = true) : XM M_X1_percent (d + 71) [.ref x, .int (nI k), .int day, .int feats] g (xVal (.int (FP.f2i (FP.fmul (brV (hld (isPa (S 1)) rr (cov (S 1) (-1) k day feats)) (fun r => S 1 (23 + 20 * r + 6)) rr) 1120403456))) (fun g' => xCs g' x lk fa ka la p Z (S 1) n rr ww k day feats (-1) (hld (isPa (S 1)) rr (cov (S 1) (-1) k day feats)) ∧ xFr (oEq 6) 0 g g')) := by
  refine xm_of (by decide +kernel) (Nat.le_of_ble_eq_true rfl) ?_
  show XW _ _ 0 [(0, _), (1, _), (2, _), (3, _)] [] _ _
  refine xw_aload_n (pc := 0) dX1_percent_0 0 rfl ?_
  refine xw_iload_n (pc := 1) dX1_percent_1 1 rfl ?_
  refine xw_iload_n (pc := 2) dX1_percent_2 2 rfl ?_
  refine xw_iload_n (pc := 3) dX1_percent_3 3 rfl ?_
  refine xw_callF (pc := 4) (xr_V (as := [_, _, _]) ok_X1_looked rfl (by decide) q1512 q1514 qs26 (by rw [hM.tx]; rfl) (by rw [hM.tx]; rfl) dX1_percent_4 rfl rfl (Nat.le_of_ble_eq_true rfl)) (SP_X1_looked hM.tx hM.ox hM.xp hM.P hM.l3 hM.B hk hcs) ?_
  intro g4 hc4 hm4
  refine xw_callF (pc := 7) (xr_V (as := []) ok_X5_burden rfl (by decide) q1610 q1611 q1612 (by first | (rw [hc4.1.lt]; rfl) | (rw [hM.B.lt]; rfl)) (by first | (rw [hc4.1.lt]; rfl) | (rw [hM.B.lt]; rfl)) dX1_percent_7 rfl rfl (Nat.le_of_ble_eq_true rfl)) (SP_X5_burden (d := d + 24) hc4.1) ?_
  intro g7 hc7 hm7
  refine xw_ldcwf (pc := 10) dX1_percent_10 q1623 ?_
  refine xw_fmul (pc := 13) dX1_percent_13 (by exact brV_100 hM.P.wf.br hM.P.wf.r16) ?_
  refine xw_f2i (pc := 14) dX1_percent_14 ?_
  refine xw_iret (pc := 15) .int dX1_percent_15 rfl ?_ 
  exact ⟨rfl, hc7.1, (hc4.2.tr (hc7.2.fr hc4.1.kao6)).sub (fun _ h => h) (Nat.le_refl _)⟩

theorem SP_X1_scaled_A {d : Nat} {g : xG} {q : Nat} (hq : q ≤ 1000) : XM M_X1_scaled d [.float 2143289344, .int (nI q)] g (xOne (some (.float (scV 2143289344 q))) g) := by
  refine xm_of (by decide +kernel) (Nat.le_of_ble_eq_true rfl) ?_
  show XW _ _ 0 [(0, _), (1, _)] [] _ _
  refine xw_fload_n (pc := 0) dX1_scaled_0 0 rfl ?_
  refine xw_fload_n (pc := 1) dX1_scaled_1 0 rfl ?_
  refine xw_fcmp (pc := 2) dX1_scaled_2 ?_
  refine xw_if_ne (pc := 3) 18 dX1_scaled_3 rfl (fun hb3 => ?_) (fun hb3 => ?_)
  rotate_left
  · exfalso
    rw [cv_nan] at hb3; exact absurd hb3 (by decide)
  refine xw_iconst (v := nI 1) (pc := 18) dX1_scaled_18 rfl ?_
  refine xw_goto (pc := 19) 23 dX1_scaled_19 rfl ?_
  refine xw_istore_n (l' := [(2, _), (0, _), (1, _)]) (pc := 23) dX1_scaled_23 rfl (by decide) rfl ?_
  refine xw_iload_n (pc := 24) dX1_scaled_24 0 rfl ?_
  refine xw_if_eq (pc := 25) 34 dX1_scaled_25 rfl (fun hb => absurd hb (by decide)) (fun _ => ?_)
  refine xw_ldcwf (pc := 28) dX1_scaled_28 q1776 ?_
  refine xw_goto (pc := 31) 42 dX1_scaled_31 rfl ?_
  refine xw_fret (pc := 42) dX1_scaled_42 rfl ?_
  exact ⟨by rw [show scV 2143289344 q = 2143289344 from if_pos (Or.inl rfl)], rfl⟩

theorem SP_X1_scaled_B {d : Nat} {g : xG} : XM M_X1_scaled d [.float 2139095040, .int (nI 0)] g (xOne (some (.float (scV 2139095040 0))) g) := by
  have hz : fZ 2139095040 := by unfold fZ; decide
  refine xm_of (by decide +kernel) (Nat.le_of_ble_eq_true rfl) ?_
  show XW _ _ 0 [(0, _), (1, _)] [] _ _
  refine xw_fload_n (pc := 0) dX1_scaled_0 0 rfl ?_
  refine xw_fload_n (pc := 1) dX1_scaled_1 0 rfl ?_
  refine xw_fcmp (pc := 2) dX1_scaled_2 ?_
  refine xw_if_ne (pc := 3) 18 dX1_scaled_3 rfl (fun hb3 => ?_) (fun hb3 => ?_)
  · exfalso
    exact hb3 (cv_self hz)
  refine xw_fload_n (pc := 6) dX1_scaled_6 0 rfl ?_
  refine xw_ldcwf (pc := 7) dX1_scaled_7 q1775 ?_
  refine xw_fcmp (pc := 10) dX1_scaled_10 ?_
  refine xw_if_le (pc := 11) 22 dX1_scaled_11 rfl (fun hb11 => ?_) (fun hb11 => ?_)
  · exfalso
    rw [cv_max1] at hb11; exact absurd hb11 (by decide)
  refine xw_iload_n (pc := 14) dX1_scaled_14 1 rfl ?_
  refine xw_if_ne (pc := 15) 22 dX1_scaled_15 rfl (fun hb => absurd hb (by decide)) (fun _ => ?_)
  refine xw_iconst (v := nI 1) (pc := 18) dX1_scaled_18 rfl ?_
  refine xw_goto (pc := 19) 23 dX1_scaled_19 rfl ?_
  refine xw_istore_n (l' := [(2, _), (0, _), (1, _)]) (pc := 23) dX1_scaled_23 rfl (by decide) rfl ?_
  refine xw_iload_n (pc := 24) dX1_scaled_24 0 rfl ?_
  refine xw_if_eq (pc := 25) 34 dX1_scaled_25 rfl (fun hb => absurd hb (by decide)) (fun _ => ?_)
  refine xw_ldcwf (pc := 28) dX1_scaled_28 q1776 ?_
  refine xw_goto (pc := 31) 42 dX1_scaled_31 rfl ?_
  refine xw_fret (pc := 42) dX1_scaled_42 rfl ?_
  exact ⟨by rw [show scV 2139095040 0 = 2143289344 from if_pos (Or.inr ⟨rfl, rfl⟩)], rfl⟩

theorem SP_X1_scaled_C {d : Nat} {g : xG} {q : Nat} (hq : q ≤ 1000) {v : UInt32} (hz : fZ v) (hn : v ≠ 2143289344) (hi : ¬ (v = 2139095040 ∧ q = 0)) : XM M_X1_scaled d [.float v, .int (nI q)] g (xOne (some (.float (scV v q))) g) := by
  refine xm_of (by decide +kernel) (Nat.le_of_ble_eq_true rfl) ?_
  show XW _ _ 0 [(0, _), (1, _)] [] _ _
  refine xw_fload_n (pc := 0) dX1_scaled_0 0 rfl ?_
  refine xw_fload_n (pc := 1) dX1_scaled_1 0 rfl ?_
  refine xw_fcmp (pc := 2) dX1_scaled_2 ?_
  refine xw_if_ne (pc := 3) 18 dX1_scaled_3 rfl (fun hb3 => ?_) (fun hb3 => ?_)
  · exfalso
    exact hb3 (cv_self hz)
  refine xw_fload_n (pc := 6) dX1_scaled_6 0 rfl ?_
  refine xw_ldcwf (pc := 7) dX1_scaled_7 q1775 ?_
  refine xw_fcmp (pc := 10) dX1_scaled_10 ?_
  refine xw_if_le (pc := 11) 22 dX1_scaled_11 rfl (fun hb11 => ?_) (fun hb11 => ?_)
  · refine xw_iconst (v := nI 0) (pc := 22) dX1_scaled_22 rfl ?_
    refine xw_istore_n (l' := [(2, _), (0, _), (1, _)]) (pc := 23) dX1_scaled_23 rfl (by decide) rfl ?_
    refine xw_iload_n (pc := 24) dX1_scaled_24 0 rfl ?_
    refine xw_if_eq (pc := 25) 34 dX1_scaled_25 rfl (fun _ => ?_) (fun hb => absurd hb (by decide))
    refine xw_fload_n (pc := 34) dX1_scaled_34 1 rfl ?_
    refine xw_iload_n (pc := 35) dX1_scaled_35 2 rfl ?_
    refine xw_i2f (pc := 36) dX1_scaled_36 ?_
    refine xw_fmul (pc := 37) dX1_scaled_37 (by exact (fZ_mul hz hq hi).n32) ?_
    refine xw_ldcwf (pc := 38) dX1_scaled_38 q1623 ?_
    refine xw_fdiv (pc := 41) dX1_scaled_41 (by exact (fZ_div (fZ_mul hz hq hi)).n32) ?_
    refine xw_fret (pc := 42) dX1_scaled_42 rfl ?_
    exact ⟨by rw [show scV v q = FP.fdiv (FP.fmul v (FP.i2f (nI q))) 1120403456 from if_neg (fun h => h.elim hn hi)], rfl⟩
  · refine xw_iload_n (pc := 14) dX1_scaled_14 1 rfl ?_
    refine xw_if_ne (pc := 15) 22 dX1_scaled_15 rfl (fun hb15 => ?_) (fun hb15 => ?_)
    rotate_left
    · exfalso
      replace hb15 : q = 0 := (nI_eq (a := q) (b := 0) (by omega) (by omega)).mp hb15
      have hv9 : v = 2139095040 := by
        apply Decidable.byContradiction
        intro h9
        exact hb11 (cv_max0 hz h9)
      exact hi ⟨hv9, hb15⟩
    replace hb15 : ¬ (q = 0) := mt (nI_eq (a := q) (b := 0) (by omega) (by omega)).mpr hb15
    refine xw_iconst (v := nI 0) (pc := 22) dX1_scaled_22 rfl ?_
    refine xw_istore_n (l' := [(2, _), (0, _), (1, _)]) (pc := 23) dX1_scaled_23 rfl (by decide) rfl ?_
    refine xw_iload_n (pc := 24) dX1_scaled_24 0 rfl ?_
    refine xw_if_eq (pc := 25) 34 dX1_scaled_25 rfl (fun _ => ?_) (fun hb => absurd hb (by decide))
    refine xw_fload_n (pc := 34) dX1_scaled_34 1 rfl ?_
    refine xw_iload_n (pc := 35) dX1_scaled_35 2 rfl ?_
    refine xw_i2f (pc := 36) dX1_scaled_36 ?_
    refine xw_fmul (pc := 37) dX1_scaled_37 (by exact (fZ_mul hz hq hi).n32) ?_
    refine xw_ldcwf (pc := 38) dX1_scaled_38 q1623 ?_
    refine xw_fdiv (pc := 41) dX1_scaled_41 (by exact (fZ_div (fZ_mul hz hq hi)).n32) ?_
    refine xw_fret (pc := 42) dX1_scaled_42 rfl ?_
    exact ⟨by rw [show scV v q = FP.fdiv (FP.fmul v (FP.i2f (nI q))) 1120403456 from if_neg (fun h => h.elim hn hi)], rfl⟩

theorem SP_X1_scaled {d : Nat} {g : xG} {q : Nat} (hq : q ≤ 1000) {v : UInt32} (hv : fOKu v) : XM M_X1_scaled d [.float v, .int (nI q)] g (xOne (some (.float (scV v q))) g) := by
  by_cases hn : v = 2143289344
  · subst hn
    exact SP_X1_scaled_A hq
  by_cases hi : v = 2139095040 ∧ q = 0
  · obtain ⟨rfl, rfl⟩ := hi
    exact SP_X1_scaled_B
  · exact SP_X1_scaled_C hq (hv.nn hn) hn hi
theorem SP_X1_rowAt_F1 {d : Nat} {g : xG} {x rw0 : Nat} {s10 s11 : Nat → Int32} (hR : xRwQ g rw0 s10 s11) (hx : xtag g x = 1) (h7 : xr g x 7 = some rw0) {v : Int32} (hv : inR v (nI 0) (nI 2) = false) : XM M_X1_rowAt (d + 80) [.ref x, .int v] g (xThr (xsz g) (xExc g 23)) := by
  refine xm_of (by decide +kernel) (Nat.le_of_ble_eq_true rfl) ?_
  show XW _ _ 0 [(0, _), (1, _)] [] _ _
  refine xw_iload_n (pc := 0) dX1_rowAt_0 1 rfl ?_
  refine xw_callV (pc := 1) (xr_S (as := [_]) ok_X1_isRow rfl (by decide) q1753 q1754 dX1_rowAt_1 rfl rfl (Nat.le_of_ble_eq_true rfl)) ((show XM M_X1_isRow (d + 79) [.int v] _ (xOne (some (.int (bI false))) _) from by have h9 := SP_X1_isRow (d := d + 78) (g := g) (v := v); rw [hv] at h9; exact h9)) ?_
  refine xw_callX (pc := 4) (xr_S (as := [_]) ok_X1_checkIndex rfl (by decide) q1252 q1066 dX1_rowAt_4 rfl rfl (Nat.le_of_ble_eq_true rfl)) (SP_X1_checkIndex_F) ?_
  exact xx_out0 rfl (by rw [xExc_tag]; decide) (by rw [xExc_tag]; decide) (by rw [xExc_own]; decide) ⟨rfl, rfl⟩

theorem SP_X1_rowAt_F2 {d : Nat} {g : xG} {x rw0 : Nat} {s10 s11 : Nat → Int32} (hR : xRwQ g rw0 s10 s11) (hx : xtag g x = 1) (h7 : xr g x 7 = some rw0) {t : Nat} (ht : t < 3) (hn : xr g rw0 t = none) : XM M_X1_rowAt (d + 80) [.ref x, .int (nI t)] g (xThr (xsz g) (xExc g 24)) := by
  obtain ⟨w1, w2, w3, w4⟩ := hR
  have hI : inR (nI t) (nI 0) (nI 2) = true := inR_nat' (by decide) (by omega)
  refine xm_of (by decide +kernel) (Nat.le_of_ble_eq_true rfl) ?_
  show XW _ _ 0 [(0, _), (1, _)] [] _ _
  refine xw_iload_n (pc := 0) dX1_rowAt_0 1 rfl ?_
  refine xw_callV (pc := 1) (xr_S (as := [_]) ok_X1_isRow rfl (by decide) q1753 q1754 dX1_rowAt_1 rfl rfl (Nat.le_of_ble_eq_true rfl)) ((show XM M_X1_isRow (d + 79) [.int (nI t)] _ (xOne (some (.int (bI true))) _) from by have h9 := SP_X1_isRow (d := d + 78) (g := g) (v := (nI t)); rw [hI] at h9; exact h9)) ?_
  refine xw_callU (pc := 4) (xr_S (as := [_]) ok_X1_checkIndex rfl (by decide) q1252 q1066 dX1_rowAt_4 rfl rfl (Nat.le_of_ble_eq_true rfl)) (SP_X1_checkIndex_T) ?_
  refine xw_aload_n (pc := 7) dX1_rowAt_7 0 rfl ?_
  refine xw_getS (b := rw0) (pc := 8) fd_X1_40 dX1_rowAt_8 (by first | assumption | (simp [-List.getD_eq_getElem?_getD, xE_setI, xsz_setI, xsl_setI, xtag_setI, xown_setI, xlen_setI, xE_setR, xsz_setR, xsl_setR, xtag_setR, xown_setR, xlen_setR, xE_setW, xsz_setW, xsl_setW, xtag_setW, xown_setW, xlen_setW, xi_setR, xi_setW, xr_setI, xr_setW, xww_setI, xww_setR, xi_setI, xr_setR, xww_setW, xE_new, xsz_new, xsl_new, hx, h7, w1, xsub]; done) | (simp [-List.getD_eq_getElem?_getD, xE_setI, xsz_setI, xsl_setI, xtag_setI, xown_setI, xlen_setI, xE_setR, xsz_setR, xsl_setR, xtag_setR, xown_setR, xlen_setR, xE_setW, xsz_setW, xsl_setW, xtag_setW, xown_setW, xlen_setW, xi_setR, xi_setW, xr_setI, xr_setW, xww_setI, xww_setR, xi_setI, xr_setR, xww_setW, xE_new, xsz_new, xsl_new, hx, h7, w1] <;> rfl)) (by simp [-List.getD_eq_getElem?_getD, xE_setI, xsz_setI, xsl_setI, xtag_setI, xown_setI, xlen_setI, xE_setR, xsz_setR, xsl_setR, xtag_setR, xown_setR, xlen_setR, xE_setW, xsz_setW, xsl_setW, xtag_setW, xown_setW, xlen_setW, xi_setR, xi_setW, xr_setI, xr_setW, xww_setI, xww_setR, xi_setI, xr_setR, xww_setW, xE_new, xsz_new, xsl_new, hx, h7, w1]) ?_
  refine xw_iload_n (pc := 11) dX1_rowAt_11 1 rfl ?_
  refine xw_aald (q := 13) (k := t) (pc := 12) dX1_rowAt_12 (by simp [-List.getD_eq_getElem?_getD, xE_setI, xsz_setI, xsl_setI, xtag_setI, xown_setI, xlen_setI, xE_setR, xsz_setR, xsl_setR, xtag_setR, xown_setR, xlen_setR, xE_setW, xsz_setW, xsl_setW, xtag_setW, xown_setW, xlen_setW, xi_setR, xi_setW, xr_setI, xr_setW, xww_setI, xww_setR, xi_setI, xr_setR, xww_setW, xE_new, xsz_new, xsl_new, hx, h7, w1]) (by first | decide | omega) (by first | decide | omega) rfl (by rw [w3]; omega) ?_
  rw [hn]
  refine xw_ifnullN (pc := 13) 20 dX1_rowAt_13 rfl ?_
  refine xw_iconst (v := nI 0) (pc := 20) dX1_rowAt_20 rfl ?_
  refine xw_callX (pc := 21) (xr_S (as := [_]) ok_X1_checkState rfl (by decide) q1089 q1090 dX1_rowAt_21 rfl rfl (Nat.le_of_ble_eq_true rfl)) (SP_X1_checkState_F) ?_
  exact xx_out0 rfl (by rw [xExc_tag]; decide) (by rw [xExc_tag]; decide) (by rw [xExc_own]; decide) ⟨rfl, rfl⟩

theorem SP_X1_rowAt {d : Nat} {g : xG} {x rw0 : Nat} {s10 s11 : Nat → Int32} (hR : xRwQ g rw0 s10 s11) (hx : xtag g x = 1) (h7 : xr g x 7 = some rw0) {t a : Nat} (ht : t < 3) (hn : xr g rw0 t = some a) : XM M_X1_rowAt (d + 80) [.ref x, .int (nI t)] g (xOne (some (.ref a)) g) := by
  obtain ⟨w1, w2, w3, w4⟩ := hR
  have hI : inR (nI t) (nI 0) (nI 2) = true := inR_nat' (by decide) (by omega)
  refine xm_of (by decide +kernel) (Nat.le_of_ble_eq_true rfl) ?_
  show XW _ _ 0 [(0, _), (1, _)] [] _ _
  refine xw_iload_n (pc := 0) dX1_rowAt_0 1 rfl ?_
  refine xw_callV (pc := 1) (xr_S (as := [_]) ok_X1_isRow rfl (by decide) q1753 q1754 dX1_rowAt_1 rfl rfl (Nat.le_of_ble_eq_true rfl)) ((show XM M_X1_isRow (d + 79) [.int (nI t)] _ (xOne (some (.int (bI true))) _) from by have h9 := SP_X1_isRow (d := d + 78) (g := g) (v := (nI t)); rw [hI] at h9; exact h9)) ?_
  refine xw_callU (pc := 4) (xr_S (as := [_]) ok_X1_checkIndex rfl (by decide) q1252 q1066 dX1_rowAt_4 rfl rfl (Nat.le_of_ble_eq_true rfl)) (SP_X1_checkIndex_T) ?_
  refine xw_aload_n (pc := 7) dX1_rowAt_7 0 rfl ?_
  refine xw_getS (b := rw0) (pc := 8) fd_X1_40 dX1_rowAt_8 (by first | assumption | (simp [-List.getD_eq_getElem?_getD, xE_setI, xsz_setI, xsl_setI, xtag_setI, xown_setI, xlen_setI, xE_setR, xsz_setR, xsl_setR, xtag_setR, xown_setR, xlen_setR, xE_setW, xsz_setW, xsl_setW, xtag_setW, xown_setW, xlen_setW, xi_setR, xi_setW, xr_setI, xr_setW, xww_setI, xww_setR, xi_setI, xr_setR, xww_setW, xE_new, xsz_new, xsl_new, hx, h7, w1, xsub]; done) | (simp [-List.getD_eq_getElem?_getD, xE_setI, xsz_setI, xsl_setI, xtag_setI, xown_setI, xlen_setI, xE_setR, xsz_setR, xsl_setR, xtag_setR, xown_setR, xlen_setR, xE_setW, xsz_setW, xsl_setW, xtag_setW, xown_setW, xlen_setW, xi_setR, xi_setW, xr_setI, xr_setW, xww_setI, xww_setR, xi_setI, xr_setR, xww_setW, xE_new, xsz_new, xsl_new, hx, h7, w1] <;> rfl)) (by simp [-List.getD_eq_getElem?_getD, xE_setI, xsz_setI, xsl_setI, xtag_setI, xown_setI, xlen_setI, xE_setR, xsz_setR, xsl_setR, xtag_setR, xown_setR, xlen_setR, xE_setW, xsz_setW, xsl_setW, xtag_setW, xown_setW, xlen_setW, xi_setR, xi_setW, xr_setI, xr_setW, xww_setI, xww_setR, xi_setI, xr_setR, xww_setW, xE_new, xsz_new, xsl_new, hx, h7, w1]) ?_
  refine xw_iload_n (pc := 11) dX1_rowAt_11 1 rfl ?_
  refine xw_aald (q := 13) (k := t) (pc := 12) dX1_rowAt_12 (by simp [-List.getD_eq_getElem?_getD, xE_setI, xsz_setI, xsl_setI, xtag_setI, xown_setI, xlen_setI, xE_setR, xsz_setR, xsl_setR, xtag_setR, xown_setR, xlen_setR, xE_setW, xsz_setW, xsl_setW, xtag_setW, xown_setW, xlen_setW, xi_setR, xi_setW, xr_setI, xr_setW, xww_setI, xww_setR, xi_setI, xr_setR, xww_setW, xE_new, xsz_new, xsl_new, hx, h7, w1]) (by first | decide | omega) (by first | decide | omega) rfl (by rw [w3]; omega) ?_
  rw [show xr g rw0 t = some a from by exact hn]
  refine xw_ifnull (pc := 13) dX1_rowAt_13 ?_
  refine xw_iconst (v := nI 1) (pc := 16) dX1_rowAt_16 rfl ?_
  refine xw_goto (pc := 17) 21 dX1_rowAt_17 rfl ?_
  refine xw_callU (pc := 21) (xr_S (as := [_]) ok_X1_checkState rfl (by decide) q1089 q1090 dX1_rowAt_21 rfl rfl (Nat.le_of_ble_eq_true rfl)) (SP_X1_checkState_T) ?_
  refine xw_aload_n (pc := 24) dX1_rowAt_24 0 rfl ?_
  refine xw_getS (b := rw0) (pc := 25) fd_X1_40 dX1_rowAt_25 (by first | assumption | (simp [-List.getD_eq_getElem?_getD, xE_setI, xsz_setI, xsl_setI, xtag_setI, xown_setI, xlen_setI, xE_setR, xsz_setR, xsl_setR, xtag_setR, xown_setR, xlen_setR, xE_setW, xsz_setW, xsl_setW, xtag_setW, xown_setW, xlen_setW, xi_setR, xi_setW, xr_setI, xr_setW, xww_setI, xww_setR, xi_setI, xr_setR, xww_setW, xE_new, xsz_new, xsl_new, hx, h7, w1, xsub]; done) | (simp [-List.getD_eq_getElem?_getD, xE_setI, xsz_setI, xsl_setI, xtag_setI, xown_setI, xlen_setI, xE_setR, xsz_setR, xsl_setR, xtag_setR, xown_setR, xlen_setR, xE_setW, xsz_setW, xsl_setW, xtag_setW, xown_setW, xlen_setW, xi_setR, xi_setW, xr_setI, xr_setW, xww_setI, xww_setR, xi_setI, xr_setR, xww_setW, xE_new, xsz_new, xsl_new, hx, h7, w1] <;> rfl)) (by simp [-List.getD_eq_getElem?_getD, xE_setI, xsz_setI, xsl_setI, xtag_setI, xown_setI, xlen_setI, xE_setR, xsz_setR, xsl_setR, xtag_setR, xown_setR, xlen_setR, xE_setW, xsz_setW, xsl_setW, xtag_setW, xown_setW, xlen_setW, xi_setR, xi_setW, xr_setI, xr_setW, xww_setI, xww_setR, xi_setI, xr_setR, xww_setW, xE_new, xsz_new, xsl_new, hx, h7, w1]) ?_
  refine xw_iload_n (pc := 28) dX1_rowAt_28 1 rfl ?_
  refine xw_aald (q := 13) (k := t) (pc := 29) dX1_rowAt_29 (by simp [-List.getD_eq_getElem?_getD, xE_setI, xsz_setI, xsl_setI, xtag_setI, xown_setI, xlen_setI, xE_setR, xsz_setR, xsl_setR, xtag_setR, xown_setR, xlen_setR, xE_setW, xsz_setW, xsl_setW, xtag_setW, xown_setW, xlen_setW, xi_setR, xi_setW, xr_setI, xr_setW, xww_setI, xww_setR, xi_setI, xr_setR, xww_setW, xE_new, xsz_new, xsl_new, hx, h7, w1]) (by first | decide | omega) (by first | decide | omega) rfl (by rw [w3]; omega) ?_
  rw [show xr g rw0 t = some a from by exact hn]
  refine xw_aret (pc := 30) (.array (.float)) dX1_rowAt_30 rfl ?_
  exact ⟨rfl, rfl⟩

theorem SP_X1_element_F1 {d : Nat} {g : xG} {x rw0 : Nat} {s10 s11 : Nat → Int32} (hR : xRwQ g rw0 s10 s11) (hx : xtag g x = 1) (h7 : xr g x 7 = some rw0) {v : Int32} {j : Int32} (hv : inR v (nI 0) (nI 2) = false) : XM M_X1_element (d + 81) [.ref x, .int v, .int j] g (xThr (xsz g) (xExc g 23)) := by
  refine xm_of (by decide +kernel) (Nat.le_of_ble_eq_true rfl) ?_
  show XW _ _ 0 [(0, _), (1, _), (2, _)] [] _ _
  refine xw_aload_n (pc := 0) dX1_element_0 0 rfl ?_
  refine xw_iload_n (pc := 1) dX1_element_1 1 rfl ?_
  refine xw_callX (pc := 2) (xr_V (as := [_]) ok_X1_rowAt rfl (by decide) q1764 q1766 qs31 (by rw [hx]; rfl) (by rw [hx]; rfl) dX1_element_2 rfl rfl (Nat.le_of_ble_eq_true rfl)) (SP_X1_rowAt_F1 (d := d) hR hx h7 hv) ?_
  exact xx_out0 rfl (by rw [xExc_tag]; decide) (by rw [xExc_tag]; decide) (by rw [xExc_own]; decide) ⟨rfl, rfl⟩

theorem SP_X1_element_F2 {d : Nat} {g : xG} {x rw0 : Nat} {s10 s11 : Nat → Int32} (hR : xRwQ g rw0 s10 s11) (hx : xtag g x = 1) (h7 : xr g x 7 = some rw0) {t : Nat} {j : Int32} (ht : t < 3) (hn : xr g rw0 t = none) : XM M_X1_element (d + 81) [.ref x, .int (nI t), .int j] g (xThr (xsz g) (xExc g 24)) := by
  refine xm_of (by decide +kernel) (Nat.le_of_ble_eq_true rfl) ?_
  show XW _ _ 0 [(0, _), (1, _), (2, _)] [] _ _
  refine xw_aload_n (pc := 0) dX1_element_0 0 rfl ?_
  refine xw_iload_n (pc := 1) dX1_element_1 1 rfl ?_
  refine xw_callX (pc := 2) (xr_V (as := [_]) ok_X1_rowAt rfl (by decide) q1764 q1766 qs31 (by rw [hx]; rfl) (by rw [hx]; rfl) dX1_element_2 rfl rfl (Nat.le_of_ble_eq_true rfl)) (SP_X1_rowAt_F2 (d := d) hR hx h7 ht hn) ?_
  exact xx_out0 rfl (by rw [xExc_tag]; decide) (by rw [xExc_tag]; decide) (by rw [xExc_own]; decide) ⟨rfl, rfl⟩

theorem SP_X1_total_F1 {d : Nat} {g : xG} {x rw0 : Nat} {s10 s11 : Nat → Int32} (hR : xRwQ g rw0 s10 s11) (hx : xtag g x = 1) (h7 : xr g x 7 = some rw0) {v : Int32} (hv : inR v (nI 0) (nI 2) = false) : XM M_X1_total (d + 81) [.ref x, .int v] g (xThr (xsz g) (xExc g 23)) := by
  refine xm_of (by decide +kernel) (Nat.le_of_ble_eq_true rfl) ?_
  show XW _ _ 0 [(0, _), (1, _)] [] _ _
  refine xw_dconst0 (pc := 0) dX1_total_0 ?_
  refine xw_dstore_n (l' := [(2, _), (0, _), (1, _)]) (pc := 1) dX1_total_1 rfl (by decide) rfl ?_
  refine xw_aload_n (pc := 2) dX1_total_2 1 rfl ?_
  refine xw_iload_n (pc := 3) dX1_total_3 2 rfl ?_
  refine xw_callX (pc := 4) (xr_V (as := [_]) ok_X1_rowAt rfl (by decide) q1764 q1766 qs31 (by rw [hx]; rfl) (by rw [hx]; rfl) dX1_total_4 rfl rfl (Nat.le_of_ble_eq_true rfl)) (SP_X1_rowAt_F1 (d := d) hR hx h7 hv) ?_
  exact xx_out0 rfl (by rw [xExc_tag]; decide) (by rw [xExc_tag]; decide) (by rw [xExc_own]; decide) ⟨rfl, rfl⟩

theorem SP_X1_total_F2 {d : Nat} {g : xG} {x rw0 : Nat} {s10 s11 : Nat → Int32} (hR : xRwQ g rw0 s10 s11) (hx : xtag g x = 1) (h7 : xr g x 7 = some rw0) {t : Nat} (ht : t < 3) (hn : xr g rw0 t = none) : XM M_X1_total (d + 81) [.ref x, .int (nI t)] g (xThr (xsz g) (xExc g 24)) := by
  refine xm_of (by decide +kernel) (Nat.le_of_ble_eq_true rfl) ?_
  show XW _ _ 0 [(0, _), (1, _)] [] _ _
  refine xw_dconst0 (pc := 0) dX1_total_0 ?_
  refine xw_dstore_n (l' := [(2, _), (0, _), (1, _)]) (pc := 1) dX1_total_1 rfl (by decide) rfl ?_
  refine xw_aload_n (pc := 2) dX1_total_2 1 rfl ?_
  refine xw_iload_n (pc := 3) dX1_total_3 2 rfl ?_
  refine xw_callX (pc := 4) (xr_V (as := [_]) ok_X1_rowAt rfl (by decide) q1764 q1766 qs31 (by rw [hx]; rfl) (by rw [hx]; rfl) dX1_total_4 rfl rfl (Nat.le_of_ble_eq_true rfl)) (SP_X1_rowAt_F2 (d := d) hR hx h7 ht hn) ?_
  exact xx_out0 rfl (by rw [xExc_tag]; decide) (by rw [xExc_tag]; decide) (by rw [xExc_own]; decide) ⟨rfl, rfl⟩

theorem SP_X1_element_F3 {d : Nat} {g : xG} {x rw0 : Nat} {s10 s11 : Nat → Int32} (hR : xRwQ g rw0 s10 s11) (hx : xtag g x = 1) (h7 : xr g x 7 = some rw0) {t a many : Nat} (ht : t < 3) (hn : xr g rw0 t = some a) (a1 : xtag g a = 105) (a3 : xlen g a = many) (hmy : many ≤ 12) {j : Int32} (hj : inR j (nI 0) (nI many - nI 1) = false) : XM M_X1_element (d + 81) [.ref x, .int (nI t), .int j] g (xThr (xsz g) (xExc g 25)) := by
  refine xm_of (by decide +kernel) (Nat.le_of_ble_eq_true rfl) ?_
  show XW _ _ 0 [(0, _), (1, _), (2, _)] [] _ _
  refine xw_aload_n (pc := 0) dX1_element_0 0 rfl ?_
  refine xw_iload_n (pc := 1) dX1_element_1 1 rfl ?_
  refine xw_callV (pc := 2) (xr_V (as := [_]) ok_X1_rowAt rfl (by decide) q1764 q1766 qs31 (by rw [hx]; rfl) (by rw [hx]; rfl) dX1_element_2 rfl rfl (Nat.le_of_ble_eq_true rfl)) (SP_X1_rowAt (d := d) hR hx h7 ht hn) ?_
  refine xw_astore_n (l' := [(3, _), (0, _), (1, _), (2, _)]) (pc := 5) dX1_element_5 rfl (by decide) rfl ?_
  refine xw_iload_n (pc := 6) dX1_element_6 3 rfl ?_
  refine xw_iconst (v := nI 0) (pc := 7) dX1_element_7 rfl ?_
  refine xw_aload_n (pc := 8) dX1_element_8 0 rfl ?_
  refine xw_alen (q := 4) (pc := 9) dX1_element_9 (by simp [-List.getD_eq_getElem?_getD, xE_setI, xsz_setI, xsl_setI, xtag_setI, xown_setI, xlen_setI, xE_setR, xsz_setR, xsl_setR, xtag_setR, xown_setR, xlen_setR, xE_setW, xsz_setW, xsl_setW, xtag_setW, xown_setW, xlen_setW, xi_setR, xi_setW, xr_setI, xr_setW, xww_setI, xww_setR, xi_setI, xr_setR, xww_setW, xE_new, xsz_new, xsl_new, hx, a1, a3]) (by first | decide | omega) ?_
  rw [show xlen _ a = many from by simp [-List.getD_eq_getElem?_getD, xE_setI, xsz_setI, xsl_setI, xtag_setI, xown_setI, xlen_setI, xE_setR, xsz_setR, xsl_setR, xtag_setR, xown_setR, xlen_setR, xE_setW, xsz_setW, xsl_setW, xtag_setW, xown_setW, xlen_setW, xi_setR, xi_setW, xr_setI, xr_setW, xww_setI, xww_setR, xi_setI, xr_setR, xww_setW, xE_new, xsz_new, xsl_new, hx, a1, a3]]
  refine xw_iconst (v := nI 1) (pc := 10) dX1_element_10 rfl ?_
  refine xw_isub (pc := 11) dX1_element_11 ?_
  refine xw_callV (pc := 12) (xr_S (as := [_, _, _]) ok_X1_isIn rfl (by decide) q1180 q784 dX1_element_12 rfl rfl (Nat.le_of_ble_eq_true rfl)) ((show XM M_X1_isIn (d + 80) [.int j, .int (nI 0), .int (nI many - nI 1)] _ (xOne (some (.int (bI false))) _) from by have h9 := SP_X1_isIn (d := d + 80) (g := g) (v := j) (lo := nI 0) (hi := (nI many - nI 1)); rw [hj] at h9; exact h9)) ?_
  refine xw_callX (pc := 15) (xr_S (as := [_]) ok_X1_checkElement rfl (by decide) q1495 q1496 dX1_element_15 rfl rfl (Nat.le_of_ble_eq_true rfl)) (SP_X1_checkElement_F) ?_
  exact xx_out0 rfl (by rw [xExc_tag]; decide) (by rw [xExc_tag]; decide) (by rw [xExc_own]; decide) ⟨rfl, rfl⟩

theorem SP_X1_element {d : Nat} {g : xG} {x rw0 : Nat} {s10 s11 : Nat → Int32} (hR : xRwQ g rw0 s10 s11) (hx : xtag g x = 1) (h7 : xr g x 7 = some rw0) {t a many : Nat} (ht : t < 3) (hn : xr g rw0 t = some a) (a1 : xtag g a = 105) (a3 : xlen g a = many) (hmy : many ≤ 12) {j : Nat} (hj : j < many) (hok : fOKu (xi g a j).toUInt32) : XM M_X1_element (d + 81) [.ref x, .int (nI t), .int (nI j)] g (xOne (some (.int (xi g a j))) g) := by
  have hI : inR (nI j) (nI 0) (nI many - nI 1) = true := inR_k (by omega) hj
  refine xm_of (by decide +kernel) (Nat.le_of_ble_eq_true rfl) ?_
  show XW _ _ 0 [(0, _), (1, _), (2, _)] [] _ _
  refine xw_aload_n (pc := 0) dX1_element_0 0 rfl ?_
  refine xw_iload_n (pc := 1) dX1_element_1 1 rfl ?_
  refine xw_callV (pc := 2) (xr_V (as := [_]) ok_X1_rowAt rfl (by decide) q1764 q1766 qs31 (by rw [hx]; rfl) (by rw [hx]; rfl) dX1_element_2 rfl rfl (Nat.le_of_ble_eq_true rfl)) (SP_X1_rowAt (d := d) hR hx h7 ht hn) ?_
  refine xw_astore_n (l' := [(3, _), (0, _), (1, _), (2, _)]) (pc := 5) dX1_element_5 rfl (by decide) rfl ?_
  refine xw_iload_n (pc := 6) dX1_element_6 3 rfl ?_
  refine xw_iconst (v := nI 0) (pc := 7) dX1_element_7 rfl ?_
  refine xw_aload_n (pc := 8) dX1_element_8 0 rfl ?_
  refine xw_alen (q := 4) (pc := 9) dX1_element_9 (by simp [-List.getD_eq_getElem?_getD, xE_setI, xsz_setI, xsl_setI, xtag_setI, xown_setI, xlen_setI, xE_setR, xsz_setR, xsl_setR, xtag_setR, xown_setR, xlen_setR, xE_setW, xsz_setW, xsl_setW, xtag_setW, xown_setW, xlen_setW, xi_setR, xi_setW, xr_setI, xr_setW, xww_setI, xww_setR, xi_setI, xr_setR, xww_setW, xE_new, xsz_new, xsl_new, hx, a1, a3]) (by first | decide | omega) ?_
  rw [show xlen _ a = many from by simp [-List.getD_eq_getElem?_getD, xE_setI, xsz_setI, xsl_setI, xtag_setI, xown_setI, xlen_setI, xE_setR, xsz_setR, xsl_setR, xtag_setR, xown_setR, xlen_setR, xE_setW, xsz_setW, xsl_setW, xtag_setW, xown_setW, xlen_setW, xi_setR, xi_setW, xr_setI, xr_setW, xww_setI, xww_setR, xi_setI, xr_setR, xww_setW, xE_new, xsz_new, xsl_new, hx, a1, a3]]
  refine xw_iconst (v := nI 1) (pc := 10) dX1_element_10 rfl ?_
  refine xw_isub (pc := 11) dX1_element_11 ?_
  refine xw_callV (pc := 12) (xr_S (as := [_, _, _]) ok_X1_isIn rfl (by decide) q1180 q784 dX1_element_12 rfl rfl (Nat.le_of_ble_eq_true rfl)) ((show XM M_X1_isIn (d + 80) [.int (nI j), .int (nI 0), .int (nI many - nI 1)] _ (xOne (some (.int (bI true))) _) from by have h9 := SP_X1_isIn (d := d + 80) (g := g) (v := (nI j)) (lo := nI 0) (hi := (nI many - nI 1)); rw [hI] at h9; exact h9)) ?_
  refine xw_callU (pc := 15) (xr_S (as := [_]) ok_X1_checkElement rfl (by decide) q1495 q1496 dX1_element_15 rfl rfl (Nat.le_of_ble_eq_true rfl)) (SP_X1_checkElement_T) ?_
  refine xw_aload_n (pc := 18) dX1_element_18 0 rfl ?_
  refine xw_iload_n (pc := 19) dX1_element_19 3 rfl ?_
  refine xw_fald (k := j) (pc := 20) dX1_element_20 (by simp [-List.getD_eq_getElem?_getD, xE_setI, xsz_setI, xsl_setI, xtag_setI, xown_setI, xlen_setI, xE_setR, xsz_setR, xsl_setR, xtag_setR, xown_setR, xlen_setR, xE_setW, xsz_setW, xsl_setW, xtag_setW, xown_setW, xlen_setW, xi_setR, xi_setW, xr_setI, xr_setW, xww_setI, xww_setR, xi_setI, xr_setR, xww_setW, xE_new, xsz_new, xsl_new, hx, a1, a3]) rfl (by rw [a3]; exact hj) ?_
  refine xw_callV (pc := 21) (xr_S (as := [_]) ok_J26_floatToIntBits rfl (by decide) q1784 q1785 dX1_element_21 rfl rfl (Nat.le_of_ble_eq_true rfl)) (SP_J26_floatToIntBits hok) ?_
  refine xw_iret (pc := 24) .int dX1_element_24 rfl ?_ 
  exact ⟨rfl, rfl⟩

theorem lp_X1_total {d : Nat} {g : xG} {x a t many : Nat} (a1 : xtag g a = 105) (a3 : xlen g a = many) (hmy : many ≤ 12) (hok : ∀ j, j < many → fOKu (xi g a j).toUInt32) : ∀ (j k : Nat) (s : UInt64), k + j = many → dZ s → XW M_X1_total d 17 [(6, .int (nI k)), (5, .int (nI many)), (4, .ref a), (2, .double s), (0, .ref x), (1, .int (nI t))] [] g (xOne (some (.double (toF (fun j => (xi g a j).toUInt32) j k s))) g) := by
  intro j
  induction j with
  | zero =>
    intro k s hk hs
    refine xw_iload (pc := 17) dX1_total_17 0 rfl ?_
    refine xw_iload (pc := 19) dX1_total_19 1 rfl ?_
    refine xw_icmp_ge (pc := 21) 55 dX1_total_21 rfl (fun hb21 => ?_) (fun hb21 => ?_)
    rotate_left
    · exfalso
      replace hb21 : ¬ (many ≤ k) := mt (nI_leI (a := many) (b := k) (by omega) (by omega)).mpr hb21
      omega
    replace hb21 : many ≤ k := (nI_leI (a := many) (b := k) (by omega) (by omega)).mp hb21
    refine xw_dload_n (pc := 55) dX1_total_55 3 rfl ?_
    refine xw_dret (pc := 56) dX1_total_56 rfl ?_
    exact ⟨rfl, rfl⟩
  | succ j ih =>
    intro k s hk hs
    have hkm : k < many := by omega
    have ho := hok k hkm
    have hT : toF (fun j => (xi g a j).toUInt32) (j + 1) k s = if (xi g a k).toUInt32 = 2143289344 then 9221120237041090560 else toF (fun j => (xi g a j).toUInt32) j (k + 1) (FP.dadd s (FP.f2d (xi g a k).toUInt32)) := rfl
    rw [hT]
    refine xw_iload (pc := 17) dX1_total_17 0 rfl ?_
    refine xw_iload (pc := 19) dX1_total_19 1 rfl ?_
    refine xw_icmp_ge (pc := 21) 55 dX1_total_21 rfl (fun hb21 => ?_) (fun hb21 => ?_)
    · exfalso
      replace hb21 : many ≤ k := (nI_leI (a := many) (b := k) (by omega) (by omega)).mp hb21
      omega
    replace hb21 : ¬ (many ≤ k) := mt (nI_leI (a := many) (b := k) (by omega) (by omega)).mpr hb21
    refine xw_aload (pc := 24) dX1_total_24 2 rfl ?_
    refine xw_iload (pc := 26) dX1_total_26 0 rfl ?_
    refine xw_fald (k := k) (pc := 28) dX1_total_28 (by simp [-List.getD_eq_getElem?_getD, xE_setI, xsz_setI, xsl_setI, xtag_setI, xown_setI, xlen_setI, xE_setR, xsz_setR, xsl_setR, xtag_setR, xown_setR, xlen_setR, xE_setW, xsz_setW, xsl_setW, xtag_setW, xown_setW, xlen_setW, xi_setR, xi_setW, xr_setI, xr_setW, xww_setI, xww_setR, xi_setI, xr_setR, xww_setW, xE_new, xsz_new, xsl_new, a1, a3]) rfl (by rw [a3]; exact hkm) ?_
    refine xw_fstore (l' := [(7, _), (6, _), (5, _), (4, _), (2, _), (0, _), (1, _)]) (pc := 29) dX1_total_29 (by decide) rfl ?_
    refine xw_fload (pc := 31) dX1_total_31 0 rfl ?_
    refine xw_fload (pc := 33) dX1_total_33 0 rfl ?_
    refine xw_fcmp (pc := 35) dX1_total_35 ?_
    refine xw_if_eq (pc := 36) 43 dX1_total_36 rfl (fun hb36 => ?_) (fun hb36 => ?_)
    · have hnn := (cv_selfo ho).mp hb36
      have hz := ho.nn hnn
      rw [if_neg hnn]
      refine xw_dload_n (pc := 43) dX1_total_43 4 rfl ?_
      refine xw_fload (pc := 44) dX1_total_44 0 rfl ?_
      refine xw_f2d (pc := 46) dX1_total_46 (by exact (f2d_Z hz).n64) ?_
      refine xw_dadd (pc := 47) dX1_total_47 (by exact (dadd_Z hs (f2d_Z hz)).n64) ?_
      refine xw_dstore_n (l' := [(2, _), (7, _), (6, _), (5, _), (4, _), (0, _), (1, _)]) (pc := 48) dX1_total_48 rfl (by decide) rfl ?_
      refine xw_iinc (v := nI (k + 1)) (l' := [(6, _), (2, _), (7, _), (5, _), (4, _), (0, _), (1, _)]) (pc := 49) dX1_total_49 2 rfl (nI_add _ 1) (by decide) rfl ?_
      refine xw_goto (pc := 52) 17 dX1_total_52 rfl ?_
      refine xw_pick (pc := 17) (l' := [(6, _), (5, _), (4, _), (2, _), (0, _), (1, _)]) [0, 3, 4, 1, 5, 6] rfl ?_
      exact ih (k + 1) _ (by omega) (dadd_Z hs (f2d_Z hz))
    · refine xw_ldc2d (pc := 39) dX1_total_39 q1801 ?_
      refine xw_dret (pc := 42) dX1_total_42 rfl ?_
      exact ⟨by rw [if_pos (Decidable.byContradiction (fun h => hb36 ((cv_selfo ho).mpr h)))], rfl⟩
theorem SP_X1_total {d : Nat} {g : xG} {x rw0 : Nat} {s10 s11 : Nat → Int32} (hR : xRwQ g rw0 s10 s11) (hx : xtag g x = 1) (h7 : xr g x 7 = some rw0) {t a many : Nat} (ht : t < 3) (hn : xr g rw0 t = some a) (a1 : xtag g a = 105) (a3 : xlen g a = many) (hmy : many ≤ 12) (hok : ∀ j, j < many → fOKu (xi g a j).toUInt32) : XM M_X1_total (d + 81) [.ref x, .int (nI t)] g (xOne (some (.double (toF (fun j => (xi g a j).toUInt32) many 0 FP.dconst0))) g) := by
  refine xm_of (by decide +kernel) (Nat.le_of_ble_eq_true rfl) ?_
  show XW _ _ 0 [(0, _), (1, _)] [] _ _
  refine xw_dconst0 (pc := 0) dX1_total_0 ?_
  refine xw_dstore_n (l' := [(2, _), (0, _), (1, _)]) (pc := 1) dX1_total_1 rfl (by decide) rfl ?_
  refine xw_aload_n (pc := 2) dX1_total_2 1 rfl ?_
  refine xw_iload_n (pc := 3) dX1_total_3 2 rfl ?_
  refine xw_callV (pc := 4) (xr_V (as := [_]) ok_X1_rowAt rfl (by decide) q1764 q1766 qs31 (by rw [hx]; rfl) (by rw [hx]; rfl) dX1_total_4 rfl rfl (Nat.le_of_ble_eq_true rfl)) (SP_X1_rowAt (d := d) hR hx h7 ht hn) ?_
  refine xw_astore (l' := [(4, _), (2, _), (0, _), (1, _)]) (pc := 7) dX1_total_7 (by decide) rfl ?_
  refine xw_aload (pc := 9) dX1_total_9 0 rfl ?_
  refine xw_alen (q := 4) (pc := 11) dX1_total_11 (by simp [-List.getD_eq_getElem?_getD, xE_setI, xsz_setI, xsl_setI, xtag_setI, xown_setI, xlen_setI, xE_setR, xsz_setR, xsl_setR, xtag_setR, xown_setR, xlen_setR, xE_setW, xsz_setW, xsl_setW, xtag_setW, xown_setW, xlen_setW, xi_setR, xi_setW, xr_setI, xr_setW, xww_setI, xww_setR, xi_setI, xr_setR, xww_setW, xE_new, xsz_new, xsl_new, hx, a1, a3]) (by first | decide | omega) ?_
  rw [show xlen _ a = many from by simp [-List.getD_eq_getElem?_getD, xE_setI, xsz_setI, xsl_setI, xtag_setI, xown_setI, xlen_setI, xE_setR, xsz_setR, xsl_setR, xtag_setR, xown_setR, xlen_setR, xE_setW, xsz_setW, xsl_setW, xtag_setW, xown_setW, xlen_setW, xi_setR, xi_setW, xr_setI, xr_setW, xww_setI, xww_setR, xi_setI, xr_setR, xww_setW, xE_new, xsz_new, xsl_new, hx, a1, a3]]
  refine xw_istore (l' := [(5, _), (4, _), (2, _), (0, _), (1, _)]) (pc := 12) dX1_total_12 (by decide) rfl ?_
  refine xw_iconst (v := nI 0) (pc := 14) dX1_total_14 rfl ?_
  refine xw_istore (l' := [(6, _), (5, _), (4, _), (2, _), (0, _), (1, _)]) (pc := 15) dX1_total_15 (by decide) rfl ?_
  exact lp_X1_total a1 a3 hmy hok many 0 FP.dconst0 (by omega) dZ_0

