/-! CLASS 20: chains -/
set_option maxRecDepth 100000
theorem xCs.hc {g : xG} {x lk fa ka la p n rr ww k : Nat} {Z : xAd} {s : Nat → Int32} {day feats wo : Int32} {H : Nat → Bool} (h : xCs g x lk fa ka la p Z s n rr ww k day feats wo H) {r : Nat} (hr : r < rr) (hH : H r = true) : cov s wo k day feats r = true := by
  rw [h.hH, hld_eq hr] at hH
  cases hc : cov s wo k day feats r with
  | true => rfl
  | false => rw [hc] at hH; cases hH
theorem ahd_eq {g : xG} {x lk fa ka la p n rr ww k : Nat} {Z : xAd} {s : Nat → Int32} {day feats wo : Int32} {H : Nat → Bool} (h : xCs g x lk fa ka la p Z s n rr ww k day feats wo H) {i b : Nat} (hi : i < rr) (hb : b < i) : ahd g ((aR Z).getD i 0) ((aR Z).getD b 0) = decide (s (23 + 20 * b + 2) < s (23 + 20 * i + 2)) := by
  have r16 := h.P.wf.r16
  have e1 := (h.P.ru hi).2
  have e2 := (h.P.ru (r := b) (by omega)).2
  unfold ahd
  rw [e1.2.2.1, e2.2.2.1, e1.1, e2.1]
  by_cases q : s (23 + 20 * i + 2) = s (23 + 20 * b + 2)
  · rw [if_pos q, q, decide_eq_false (fun z => by have := (nI_ltI (a := i) (b := b) (by omega) (by omega)).mp z; omega), decide_eq_false Int32.lt_irrefl]
  · rw [if_neg q]
theorem lp_X5_next {d r : Nat} {x lk fa ka la p n rr ww k : Nat} {Z : xAd} {s : Nat → Int32} {day feats wo : Int32} {H : Nat → Bool} {g0 : xG} (hr : r < rr) : ∀ (j i : Nat) (g : xG) (bo : Option Nat) (ho : Bool), rr - i < j → r + 1 ≤ i → i ≤ rr → xCs g x lk fa ka la p Z s n rr ww k day feats wo H → xOnly ka g0 g → nxB s (cov s wo k day feats) H r (i - r - 1) = bo → nxHo s H r (i - r - 1) = ho → XW M_X5_next (d + 46) 12 [(4, .int (nI i)), (2, xref (bo.map (fun r => (aR Z).getD r 0))), (3, .int (bI ho)), (0, .ref lk), (1, .ref ((aR Z).getD r 0))] [] g (xVal (xref ((nxt s (cov s wo k day feats) H rr r).map (fun r => (aR Z).getD r 0))) (fun g' => xCs g' x lk fa ka la p Z s n rr ww k day feats wo H ∧ xOnly ka g0 g')) := by
  intro j
  induction j with
  | zero => intro i g bo ho h; omega
  | succ j ih =>
    intro i g bo ho hij hi1 hi2 hX hO hbo hho
    have r16 := hX.P.wf.r16
    have lr := hX.P.lr
    have txr := xRu_x (hX.P.ru hr)
    have nr : xi g ((aR Z).getD r 0) 0 = nI r := (hX.P.ru hr).2.1
    have hti : i < rr → xtag g (((aR Z).getD i 0)) = 6 ∨ xtag g (((aR Z).getD i 0)) = 7 := fun hi => (hX.P.ru hi).1
    have hof : i < rr → rOf g (((aR Z).getD i 0)) = s (23 + 20 * i + 5) := fun hi => (hX.P.ru hi).2.2.2.2.2.2.2.2.2.2.1
    have hstep := nxB_step (s := s) (C := (cov s wo k day feats)) (H := H) (r := r) (i := i - r - 1)
    rw [show r + 1 + (i - r - 1) = i from by omega, show i - r - 1 + 1 = i + 1 - r - 1 from by omega, hbo, hho] at hstep
    cases bo with
    | none =>
      show XW _ _ 12 [(4, _), (2, .null), (3, _), (0, _), (1, _)] [] _ _
      refine xw_iload (pc := 12) dX5_next_12 0 rfl ?_
      refine xw_aload_n (pc := 14) dX5_next_14 3 rfl ?_
      refine xw_getS (b := x) (pc := 15) fd_X5_3 dX5_next_15 (by first | assumption | (simp [-List.getD_eq_getElem?_getD, xE_setI, xsz_setI, xsl_setI, xtag_setI, xown_setI, xlen_setI, xE_setR, xsz_setR, xsl_setR, xtag_setR, xown_setR, xlen_setR, xE_setW, xsz_setW, xsl_setW, xtag_setW, xown_setW, xlen_setW, xi_setR, xi_setW, xr_setI, xr_setW, xww_setI, xww_setR, xi_setI, xr_setR, xww_setW, xE_new, xsz_new, xsl_new, hX.tx, hX.xp, hX.P.tag, hX.P.f0, hX.P.f1, hX.P.f2, hX.lt, hX.l0, hX.l1, hX.l5, hX.l2, hX.l7, hX.fat, hX.kat, hX.lat, hX.kao, txr, nr, xsub]; done) | (simp [-List.getD_eq_getElem?_getD, xE_setI, xsz_setI, xsl_setI, xtag_setI, xown_setI, xlen_setI, xE_setR, xsz_setR, xsl_setR, xtag_setR, xown_setR, xlen_setR, xE_setW, xsz_setW, xsl_setW, xtag_setW, xown_setW, xlen_setW, xi_setR, xi_setW, xr_setI, xr_setW, xww_setI, xww_setR, xi_setI, xr_setR, xww_setW, xE_new, xsz_new, xsl_new, hX.tx, hX.xp, hX.P.tag, hX.P.f0, hX.P.f1, hX.P.f2, hX.lt, hX.l0, hX.l1, hX.l5, hX.l2, hX.l7, hX.fat, hX.kat, hX.lat, hX.kao, txr, nr] <;> rfl)) (by simp [-List.getD_eq_getElem?_getD, xE_setI, xsz_setI, xsl_setI, xtag_setI, xown_setI, xlen_setI, xE_setR, xsz_setR, xsl_setR, xtag_setR, xown_setR, xlen_setR, xE_setW, xsz_setW, xsl_setW, xtag_setW, xown_setW, xlen_setW, xi_setR, xi_setW, xr_setI, xr_setW, xww_setI, xww_setR, xi_setI, xr_setR, xww_setW, xE_new, xsz_new, xsl_new, hX.tx, hX.xp, hX.P.tag, hX.P.f0, hX.P.f1, hX.P.f2, hX.lt, hX.l0, hX.l1, hX.l5, hX.l2, hX.l7, hX.fat, hX.kat, hX.lat, hX.kao, txr, nr]) ?_
      refine xw_getS (b := p) (pc := 18) fd_X5_25 dX5_next_18 (by first | assumption | (simp [-List.getD_eq_getElem?_getD, xE_setI, xsz_setI, xsl_setI, xtag_setI, xown_setI, xlen_setI, xE_setR, xsz_setR, xsl_setR, xtag_setR, xown_setR, xlen_setR, xE_setW, xsz_setW, xsl_setW, xtag_setW, xown_setW, xlen_setW, xi_setR, xi_setW, xr_setI, xr_setW, xww_setI, xww_setR, xi_setI, xr_setR, xww_setW, xE_new, xsz_new, xsl_new, hX.tx, hX.xp, hX.P.tag, hX.P.f0, hX.P.f1, hX.P.f2, hX.lt, hX.l0, hX.l1, hX.l5, hX.l2, hX.l7, hX.fat, hX.kat, hX.lat, hX.kao, txr, nr, xsub]; done) | (simp [-List.getD_eq_getElem?_getD, xE_setI, xsz_setI, xsl_setI, xtag_setI, xown_setI, xlen_setI, xE_setR, xsz_setR, xsl_setR, xtag_setR, xown_setR, xlen_setR, xE_setW, xsz_setW, xsl_setW, xtag_setW, xown_setW, xlen_setW, xi_setR, xi_setW, xr_setI, xr_setW, xww_setI, xww_setR, xi_setI, xr_setR, xww_setW, xE_new, xsz_new, xsl_new, hX.tx, hX.xp, hX.P.tag, hX.P.f0, hX.P.f1, hX.P.f2, hX.lt, hX.l0, hX.l1, hX.l5, hX.l2, hX.l7, hX.fat, hX.kat, hX.lat, hX.kao, txr, nr] <;> rfl)) (by simp [-List.getD_eq_getElem?_getD, xE_setI, xsz_setI, xsl_setI, xtag_setI, xown_setI, xlen_setI, xE_setR, xsz_setR, xsl_setR, xtag_setR, xown_setR, xlen_setR, xE_setW, xsz_setW, xsl_setW, xtag_setW, xown_setW, xlen_setW, xi_setR, xi_setW, xr_setI, xr_setW, xww_setI, xww_setR, xi_setI, xr_setR, xww_setW, xE_new, xsz_new, xsl_new, hX.tx, hX.xp, hX.P.tag, hX.P.f0, hX.P.f1, hX.P.f2, hX.lt, hX.l0, hX.l1, hX.l5, hX.l2, hX.l7, hX.fat, hX.kat, hX.lat, hX.kao, txr, nr]) ?_
      refine xw_getS (b := (aL Z 2)) (pc := 21) fd_X5_92 dX5_next_21 (by first | assumption | (simp [-List.getD_eq_getElem?_getD, xE_setI, xsz_setI, xsl_setI, xtag_setI, xown_setI, xlen_setI, xE_setR, xsz_setR, xsl_setR, xtag_setR, xown_setR, xlen_setR, xE_setW, xsz_setW, xsl_setW, xtag_setW, xown_setW, xlen_setW, xi_setR, xi_setW, xr_setI, xr_setW, xww_setI, xww_setR, xi_setI, xr_setR, xww_setW, xE_new, xsz_new, xsl_new, hX.tx, hX.xp, hX.P.tag, hX.P.f0, hX.P.f1, hX.P.f2, hX.lt, hX.l0, hX.l1, hX.l5, hX.l2, hX.l7, hX.fat, hX.kat, hX.lat, hX.kao, txr, nr, xsub]; done) | (simp [-List.getD_eq_getElem?_getD, xE_setI, xsz_setI, xsl_setI, xtag_setI, xown_setI, xlen_setI, xE_setR, xsz_setR, xsl_setR, xtag_setR, xown_setR, xlen_setR, xE_setW, xsz_setW, xsl_setW, xtag_setW, xown_setW, xlen_setW, xi_setR, xi_setW, xr_setI, xr_setW, xww_setI, xww_setR, xi_setI, xr_setR, xww_setW, xE_new, xsz_new, xsl_new, hX.tx, hX.xp, hX.P.tag, hX.P.f0, hX.P.f1, hX.P.f2, hX.lt, hX.l0, hX.l1, hX.l5, hX.l2, hX.l7, hX.fat, hX.kat, hX.lat, hX.kao, txr, nr] <;> rfl)) (by simp [-List.getD_eq_getElem?_getD, xE_setI, xsz_setI, xsl_setI, xtag_setI, xown_setI, xlen_setI, xE_setR, xsz_setR, xsl_setR, xtag_setR, xown_setR, xlen_setR, xE_setW, xsz_setW, xsl_setW, xtag_setW, xown_setW, xlen_setW, xi_setR, xi_setW, xr_setI, xr_setW, xww_setI, xww_setR, xi_setI, xr_setR, xww_setW, xE_new, xsz_new, xsl_new, hX.tx, hX.xp, hX.P.tag, hX.P.f0, hX.P.f1, hX.P.f2, hX.lt, hX.l0, hX.l1, hX.l5, hX.l2, hX.l7, hX.fat, hX.kat, hX.lat, hX.kao, txr, nr]) ?_
      refine xw_callV (pc := 24) (xr_V (as := []) ok_J2_size rfl (by decide) q754 q702 q703 (by rw [hX.P.l1.1]; rfl) (by rw [hX.P.l1.1]; rfl) dX5_next_24 rfl rfl (Nat.le_of_ble_eq_true rfl)) (SP_J2_size hX.P.l1) ?_
      refine xw_icmp_ge (pc := 27) 144 dX5_next_27 rfl (fun hb27 => ?_) (fun hb27 => ?_)
      · replace hb27 : (aR Z).length ≤ i := (nI_leI (a := (aR Z).length) (b := i) (by omega) (by omega)).mp hb27
        refine xw_aload_n (pc := 144) dX5_next_144 1 rfl ?_
        refine xw_aret (pc := 145) (.object "PolicyNotation$Rule") dX5_next_145 rfl ?_
        have ei : i = rr := by omega
        subst ei
        exact ⟨by rw [show nxt s (cov s wo k day feats) H i r = nxB s (cov s wo k day feats) H r (i - r - 1) from rfl, hbo]; rfl, hX, hO⟩
      · replace hb27 : ¬ ((aR Z).length ≤ i) := mt (nI_leI (a := (aR Z).length) (b := i) (by omega) (by omega)).mpr hb27
        have hil : i < rr := by omega
        refine xw_aload_n (pc := 30) dX5_next_30 3 rfl ?_
        refine xw_getS (b := x) (pc := 31) fd_X5_3 dX5_next_31 (by first | assumption | (simp [-List.getD_eq_getElem?_getD, xE_setI, xsz_setI, xsl_setI, xtag_setI, xown_setI, xlen_setI, xE_setR, xsz_setR, xsl_setR, xtag_setR, xown_setR, xlen_setR, xE_setW, xsz_setW, xsl_setW, xtag_setW, xown_setW, xlen_setW, xi_setR, xi_setW, xr_setI, xr_setW, xww_setI, xww_setR, xi_setI, xr_setR, xww_setW, xE_new, xsz_new, xsl_new, hX.tx, hX.xp, hX.P.tag, hX.P.f0, hX.P.f1, hX.P.f2, hX.lt, hX.l0, hX.l1, hX.l5, hX.l2, hX.l7, hX.fat, hX.kat, hX.lat, hX.kao, txr, nr, xsub]; done) | (simp [-List.getD_eq_getElem?_getD, xE_setI, xsz_setI, xsl_setI, xtag_setI, xown_setI, xlen_setI, xE_setR, xsz_setR, xsl_setR, xtag_setR, xown_setR, xlen_setR, xE_setW, xsz_setW, xsl_setW, xtag_setW, xown_setW, xlen_setW, xi_setR, xi_setW, xr_setI, xr_setW, xww_setI, xww_setR, xi_setI, xr_setR, xww_setW, xE_new, xsz_new, xsl_new, hX.tx, hX.xp, hX.P.tag, hX.P.f0, hX.P.f1, hX.P.f2, hX.lt, hX.l0, hX.l1, hX.l5, hX.l2, hX.l7, hX.fat, hX.kat, hX.lat, hX.kao, txr, nr] <;> rfl)) (by simp [-List.getD_eq_getElem?_getD, xE_setI, xsz_setI, xsl_setI, xtag_setI, xown_setI, xlen_setI, xE_setR, xsz_setR, xsl_setR, xtag_setR, xown_setR, xlen_setR, xE_setW, xsz_setW, xsl_setW, xtag_setW, xown_setW, xlen_setW, xi_setR, xi_setW, xr_setI, xr_setW, xww_setI, xww_setR, xi_setI, xr_setR, xww_setW, xE_new, xsz_new, xsl_new, hX.tx, hX.xp, hX.P.tag, hX.P.f0, hX.P.f1, hX.P.f2, hX.lt, hX.l0, hX.l1, hX.l5, hX.l2, hX.l7, hX.fat, hX.kat, hX.lat, hX.kao, txr, nr]) ?_
        refine xw_getS (b := p) (pc := 34) fd_X5_25 dX5_next_34 (by first | assumption | (simp [-List.getD_eq_getElem?_getD, xE_setI, xsz_setI, xsl_setI, xtag_setI, xown_setI, xlen_setI, xE_setR, xsz_setR, xsl_setR, xtag_setR, xown_setR, xlen_setR, xE_setW, xsz_setW, xsl_setW, xtag_setW, xown_setW, xlen_setW, xi_setR, xi_setW, xr_setI, xr_setW, xww_setI, xww_setR, xi_setI, xr_setR, xww_setW, xE_new, xsz_new, xsl_new, hX.tx, hX.xp, hX.P.tag, hX.P.f0, hX.P.f1, hX.P.f2, hX.lt, hX.l0, hX.l1, hX.l5, hX.l2, hX.l7, hX.fat, hX.kat, hX.lat, hX.kao, txr, nr, xsub]; done) | (simp [-List.getD_eq_getElem?_getD, xE_setI, xsz_setI, xsl_setI, xtag_setI, xown_setI, xlen_setI, xE_setR, xsz_setR, xsl_setR, xtag_setR, xown_setR, xlen_setR, xE_setW, xsz_setW, xsl_setW, xtag_setW, xown_setW, xlen_setW, xi_setR, xi_setW, xr_setI, xr_setW, xww_setI, xww_setR, xi_setI, xr_setR, xww_setW, xE_new, xsz_new, xsl_new, hX.tx, hX.xp, hX.P.tag, hX.P.f0, hX.P.f1, hX.P.f2, hX.lt, hX.l0, hX.l1, hX.l5, hX.l2, hX.l7, hX.fat, hX.kat, hX.lat, hX.kao, txr, nr] <;> rfl)) (by simp [-List.getD_eq_getElem?_getD, xE_setI, xsz_setI, xsl_setI, xtag_setI, xown_setI, xlen_setI, xE_setR, xsz_setR, xsl_setR, xtag_setR, xown_setR, xlen_setR, xE_setW, xsz_setW, xsl_setW, xtag_setW, xown_setW, xlen_setW, xi_setR, xi_setW, xr_setI, xr_setW, xww_setI, xww_setR, xi_setI, xr_setR, xww_setW, xE_new, xsz_new, xsl_new, hX.tx, hX.xp, hX.P.tag, hX.P.f0, hX.P.f1, hX.P.f2, hX.lt, hX.l0, hX.l1, hX.l5, hX.l2, hX.l7, hX.fat, hX.kat, hX.lat, hX.kao, txr, nr]) ?_
        refine xw_getS (b := (aL Z 2)) (pc := 37) fd_X5_92 dX5_next_37 (by first | assumption | (simp [-List.getD_eq_getElem?_getD, xE_setI, xsz_setI, xsl_setI, xtag_setI, xown_setI, xlen_setI, xE_setR, xsz_setR, xsl_setR, xtag_setR, xown_setR, xlen_setR, xE_setW, xsz_setW, xsl_setW, xtag_setW, xown_setW, xlen_setW, xi_setR, xi_setW, xr_setI, xr_setW, xww_setI, xww_setR, xi_setI, xr_setR, xww_setW, xE_new, xsz_new, xsl_new, hX.tx, hX.xp, hX.P.tag, hX.P.f0, hX.P.f1, hX.P.f2, hX.lt, hX.l0, hX.l1, hX.l5, hX.l2, hX.l7, hX.fat, hX.kat, hX.lat, hX.kao, txr, nr, xsub]; done) | (simp [-List.getD_eq_getElem?_getD, xE_setI, xsz_setI, xsl_setI, xtag_setI, xown_setI, xlen_setI, xE_setR, xsz_setR, xsl_setR, xtag_setR, xown_setR, xlen_setR, xE_setW, xsz_setW, xsl_setW, xtag_setW, xown_setW, xlen_setW, xi_setR, xi_setW, xr_setI, xr_setW, xww_setI, xww_setR, xi_setI, xr_setR, xww_setW, xE_new, xsz_new, xsl_new, hX.tx, hX.xp, hX.P.tag, hX.P.f0, hX.P.f1, hX.P.f2, hX.lt, hX.l0, hX.l1, hX.l5, hX.l2, hX.l7, hX.fat, hX.kat, hX.lat, hX.kao, txr, nr] <;> rfl)) (by simp [-List.getD_eq_getElem?_getD, xE_setI, xsz_setI, xsl_setI, xtag_setI, xown_setI, xlen_setI, xE_setR, xsz_setR, xsl_setR, xtag_setR, xown_setR, xlen_setR, xE_setW, xsz_setW, xsl_setW, xtag_setW, xown_setW, xlen_setW, xi_setR, xi_setW, xr_setI, xr_setW, xww_setI, xww_setR, xi_setI, xr_setR, xww_setW, xE_new, xsz_new, xsl_new, hX.tx, hX.xp, hX.P.tag, hX.P.f0, hX.P.f1, hX.P.f2, hX.lt, hX.l0, hX.l1, hX.l5, hX.l2, hX.l7, hX.fat, hX.kat, hX.lat, hX.kao, txr, nr]) ?_
        refine xw_iload (pc := 40) dX5_next_40 0 rfl ?_
        refine xw_callV (pc := 42) (xr_V (as := [_]) ok_J2_get rfl (by decide) q740 q706 q707 (by rw [hX.P.l1.1]; rfl) (by rw [hX.P.l1.1]; rfl) dX5_next_42 rfl rfl (Nat.le_of_ble_eq_true rfl)) (SP_J2_get hX.P.l1 i (by rw [lr]; exact hil)) ?_
        refine xw_chkR (pc := 45) dX5_next_45 q755 (by exact hti hil) ?_
        refine xw_astore (l' := [(5, _), (4, _), (2, _), (3, _), (0, _), (1, _)]) (pc := 48) dX5_next_48 (by decide) rfl ?_
        refine xw_aload (pc := 50) dX5_next_50 0 rfl ?_
        refine xw_rof (pc := 52) (hti hil) dX5_next_52 q838 (Nat.le_of_ble_eq_true rfl) ?_
        rw [hof hil]
        refine xw_aload_n (pc := 55) dX5_next_55 5 rfl ?_
        refine xw_getNat (k := r) (pc := 56) fd_X5_68 dX5_next_56 (by first | assumption | (simp [-List.getD_eq_getElem?_getD, xE_setI, xsz_setI, xsl_setI, xtag_setI, xown_setI, xlen_setI, xE_setR, xsz_setR, xsl_setR, xtag_setR, xown_setR, xlen_setR, xE_setW, xsz_setW, xsl_setW, xtag_setW, xown_setW, xlen_setW, xi_setR, xi_setW, xr_setI, xr_setW, xww_setI, xww_setR, xi_setI, xr_setR, xww_setW, xE_new, xsz_new, xsl_new, hX.tx, hX.xp, hX.P.tag, hX.P.f0, hX.P.f1, hX.P.f2, hX.lt, hX.l0, hX.l1, hX.l5, hX.l2, hX.l7, hX.fat, hX.kat, hX.lat, hX.kao, txr, nr, xsub]; done) | (simp [-List.getD_eq_getElem?_getD, xE_setI, xsz_setI, xsl_setI, xtag_setI, xown_setI, xlen_setI, xE_setR, xsz_setR, xsl_setR, xtag_setR, xown_setR, xlen_setR, xE_setW, xsz_setW, xsl_setW, xtag_setW, xown_setW, xlen_setW, xi_setR, xi_setW, xr_setI, xr_setW, xww_setI, xww_setR, xi_setI, xr_setR, xww_setW, xE_new, xsz_new, xsl_new, hX.tx, hX.xp, hX.P.tag, hX.P.f0, hX.P.f1, hX.P.f2, hX.lt, hX.l0, hX.l1, hX.l5, hX.l2, hX.l7, hX.fat, hX.kat, hX.lat, hX.kao, txr, nr] <;> rfl)) (by simp [-List.getD_eq_getElem?_getD, xE_setI, xsz_setI, xsl_setI, xtag_setI, xown_setI, xlen_setI, xE_setR, xsz_setR, xsl_setR, xtag_setR, xown_setR, xlen_setR, xE_setW, xsz_setW, xsl_setW, xtag_setW, xown_setW, xlen_setW, xi_setR, xi_setW, xr_setI, xr_setW, xww_setI, xww_setR, xi_setI, xr_setR, xww_setW, xE_new, xsz_new, xsl_new, hX.tx, hX.xp, hX.P.tag, hX.P.f0, hX.P.f1, hX.P.f2, hX.lt, hX.l0, hX.l1, hX.l5, hX.l2, hX.l7, hX.fat, hX.kat, hX.lat, hX.kao, txr, nr]) ?_
        refine xw_icmp_ne (pc := 59) 138 dX5_next_59 rfl (fun hb59 => ?_) (fun hb59 => ?_)
        · refine xw_iinc (v := nI (i + 1)) (l' := [(4, _), (5, _), (2, _), (3, _), (0, _), (1, _)]) (pc := 138) dX5_next_138 1 rfl (nI_add _ 1) (by decide) rfl ?_
          refine xw_goto (pc := 141) 12 dX5_next_141 rfl ?_
          refine xw_pick (pc := 12) (l' := [(4, _), (2, _), (3, _), (0, _), (1, _)]) [0, 2, 3, 4, 5] rfl ?_
          have hst0 := hstep (fun z => hX.hc (by omega) z)
          first
          | (have e := hst0
             rw [show isPa s i r = false from decide_eq_false hb59, Bool.false_and, if_neg (by decide)] at e
             exact ih (i + 1) g none ho (by omega) (by omega) (by omega) hX hO (congrArg Prod.fst e) (congrArg Prod.snd e))
          | (have e := hst0
             rw [hb68, Bool.and_false, if_neg (by decide)] at e
             exact ih (i + 1) g none ho (by omega) (by omega) (by omega) hX hO (congrArg Prod.fst e) (congrArg Prod.snd e))
          | (have e := hst0
             rw [hpa, hb68, Bool.and_true, if_pos rfl] at e
             exact ih (i + 1) g74 (some i) (H i) (by omega) (by omega) (by omega) hc74.1 (hO.tr hc74.2) (congrArg Prod.fst e) (congrArg Prod.snd e))
        · have hpa : isPa s i r = true := decide_eq_true hb59
          refine xw_aload_n (pc := 62) dX5_next_62 4 rfl ?_
          refine xw_aload (pc := 63) dX5_next_63 0 rfl ?_
          refine xw_callV (pc := 65) (xr_V (as := [_]) ok_X5_covers rfl (by decide) q773 q774 q775 (by rw [hX.lt]; rfl) (by rw [hX.lt]; rfl) dX5_next_65 rfl rfl (Nat.le_of_ble_eq_true rfl)) (SP_X5_cov (d := d + 33) hX hil) ?_
          refine xw_if_eq (pc := 68) 138 dX5_next_68 rfl (fun hb68 => ?_) (fun hb68 => ?_)
          · replace hb68 := bI_0.mp hb68
            refine xw_iinc (v := nI (i + 1)) (l' := [(4, _), (5, _), (2, _), (3, _), (0, _), (1, _)]) (pc := 138) dX5_next_138 1 rfl (nI_add _ 1) (by decide) rfl ?_
            refine xw_goto (pc := 141) 12 dX5_next_141 rfl ?_
            refine xw_pick (pc := 12) (l' := [(4, _), (2, _), (3, _), (0, _), (1, _)]) [0, 2, 3, 4, 5] rfl ?_
            have hst0 := hstep (fun z => hX.hc (by omega) z)
            first
            | (have e := hst0
               rw [show isPa s i r = false from decide_eq_false hb59, Bool.false_and, if_neg (by decide)] at e
               exact ih (i + 1) g none ho (by omega) (by omega) (by omega) hX hO (congrArg Prod.fst e) (congrArg Prod.snd e))
            | (have e := hst0
               rw [hb68, Bool.and_false, if_neg (by decide)] at e
               exact ih (i + 1) g none ho (by omega) (by omega) (by omega) hX hO (congrArg Prod.fst e) (congrArg Prod.snd e))
            | (have e := hst0
               rw [hpa, hb68, Bool.and_true, if_pos rfl] at e
               exact ih (i + 1) g74 (some i) (H i) (by omega) (by omega) (by omega) hc74.1 (hO.tr hc74.2) (congrArg Prod.fst e) (congrArg Prod.snd e))
          · replace hb68 := bI_n0.mp hb68
            refine xw_aload_n (pc := 71) dX5_next_71 4 rfl ?_
            refine xw_aload (pc := 72) dX5_next_72 0 rfl ?_
            refine xw_callF (pc := 74) (xr_V (as := [_]) ok_X5_holds rfl (by decide) q765 q766 q767 (by rw [hX.lt]; rfl) (by rw [hX.lt]; rfl) dX5_next_74 rfl rfl (Nat.le_of_ble_eq_true rfl)) (SP_X5_holds (d := d) hX hil) ?_
            intro g74 hc74 hm74
            refine xw_istore (l' := [(6, _), (5, _), (4, _), (2, _), (3, _), (0, _), (1, _)]) (pc := 77) dX5_next_77 (by decide) rfl ?_
            refine xw_aload_n (pc := 79) dX5_next_79 3 rfl ?_
            refine xw_ifnullN (pc := 80) 107 dX5_next_80 rfl ?_
            refine xw_iconst (v := nI 1) (pc := 107) dX5_next_107 rfl ?_
            refine xw_goto (pc := 108) 112 dX5_next_108 rfl ?_
            refine xw_istore (l' := [(7, _), (6, _), (5, _), (4, _), (2, _), (3, _), (0, _), (1, _)]) (pc := 112) dX5_next_112 (by decide) rfl ?_
            refine xw_iload (pc := 114) dX5_next_114 0 rfl ?_
            refine xw_if_eq (pc := 116) 124 dX5_next_116 rfl (fun hb => absurd hb (by decide)) (fun _ => ?_)
            refine xw_aload (pc := 119) dX5_next_119 2 rfl ?_
            refine xw_goto (pc := 121) 125 dX5_next_121 rfl ?_
            refine xw_astore_n (l' := [(2, _), (7, _), (6, _), (5, _), (4, _), (3, _), (0, _), (1, _)]) (pc := 125) dX5_next_125 rfl (by decide) rfl ?_
            refine xw_iload (pc := 126) dX5_next_126 1 rfl ?_
            refine xw_if_eq (pc := 128) 136 dX5_next_128 rfl (fun hb => absurd hb (by decide)) (fun _ => ?_)
            refine xw_iload (pc := 131) dX5_next_131 2 rfl ?_
            refine xw_goto (pc := 133) 137 dX5_next_133 rfl ?_
            refine xw_istore_n (l' := [(3, _), (2, _), (7, _), (6, _), (5, _), (4, _), (0, _), (1, _)]) (pc := 137) dX5_next_137 rfl (by decide) rfl ?_
            refine xw_iinc (v := nI (i + 1)) (l' := [(4, _), (3, _), (2, _), (7, _), (6, _), (5, _), (0, _), (1, _)]) (pc := 138) dX5_next_138 5 rfl (nI_add _ 1) (by decide) rfl ?_
            refine xw_goto (pc := 141) 12 dX5_next_141 rfl ?_
            refine xw_pick (pc := 12) (l' := [(4, _), (2, _), (3, _), (0, _), (1, _)]) [0, 2, 1, 6, 7] rfl ?_
            have hst0 := hstep (fun z => hX.hc (by omega) z)
            first
            | (have e := hst0
               rw [show isPa s i r = false from decide_eq_false hb59, Bool.false_and, if_neg (by decide)] at e
               exact ih (i + 1) g none ho (by omega) (by omega) (by omega) hX hO (congrArg Prod.fst e) (congrArg Prod.snd e))
            | (have e := hst0
               rw [hb68, Bool.and_false, if_neg (by decide)] at e
               exact ih (i + 1) g none ho (by omega) (by omega) (by omega) hX hO (congrArg Prod.fst e) (congrArg Prod.snd e))
            | (have e := hst0
               rw [hpa, hb68, Bool.and_true, if_pos rfl] at e
               exact ih (i + 1) g74 (some i) (H i) (by omega) (by omega) (by omega) hc74.1 (hO.tr hc74.2) (congrArg Prod.fst e) (congrArg Prod.snd e))
    | some b =>
      have hbl := nxB_lt hbo
      have hbi : b < i := by omega
      have hbr : b < rr := by omega
      have hah : i < rr → ∀ g', xCs g' x lk fa ka la p Z s n rr ww k day feats wo H → XM M_X7_isAhead (d + 45) (.ref ((aR Z).getD i 0) :: [.ref ((aR Z).getD b 0)]) g' (xOne (some (.int (bI (decide (s (23 + 20 * b + 2) < s (23 + 20 * i + 2)))))) g') := fun hi g' h' => by
        rw [← ahd_eq h' hi hbi]
        exact SP_X7_isAhead (xRu_x (h'.P.ru hi)) (xRu_x (h'.P.ru hbr))
      show XW _ _ 12 [(4, _), (2, .ref ((aR Z).getD b 0)), (3, _), (0, _), (1, _)] [] _ _
      refine xw_iload (pc := 12) dX5_next_12 0 rfl ?_
      refine xw_aload_n (pc := 14) dX5_next_14 3 rfl ?_
      refine xw_getS (b := x) (pc := 15) fd_X5_3 dX5_next_15 (by first | assumption | (simp [-List.getD_eq_getElem?_getD, xE_setI, xsz_setI, xsl_setI, xtag_setI, xown_setI, xlen_setI, xE_setR, xsz_setR, xsl_setR, xtag_setR, xown_setR, xlen_setR, xE_setW, xsz_setW, xsl_setW, xtag_setW, xown_setW, xlen_setW, xi_setR, xi_setW, xr_setI, xr_setW, xww_setI, xww_setR, xi_setI, xr_setR, xww_setW, xE_new, xsz_new, xsl_new, hX.tx, hX.xp, hX.P.tag, hX.P.f0, hX.P.f1, hX.P.f2, hX.lt, hX.l0, hX.l1, hX.l5, hX.l2, hX.l7, hX.fat, hX.kat, hX.lat, hX.kao, txr, nr, xsub]; done) | (simp [-List.getD_eq_getElem?_getD, xE_setI, xsz_setI, xsl_setI, xtag_setI, xown_setI, xlen_setI, xE_setR, xsz_setR, xsl_setR, xtag_setR, xown_setR, xlen_setR, xE_setW, xsz_setW, xsl_setW, xtag_setW, xown_setW, xlen_setW, xi_setR, xi_setW, xr_setI, xr_setW, xww_setI, xww_setR, xi_setI, xr_setR, xww_setW, xE_new, xsz_new, xsl_new, hX.tx, hX.xp, hX.P.tag, hX.P.f0, hX.P.f1, hX.P.f2, hX.lt, hX.l0, hX.l1, hX.l5, hX.l2, hX.l7, hX.fat, hX.kat, hX.lat, hX.kao, txr, nr] <;> rfl)) (by simp [-List.getD_eq_getElem?_getD, xE_setI, xsz_setI, xsl_setI, xtag_setI, xown_setI, xlen_setI, xE_setR, xsz_setR, xsl_setR, xtag_setR, xown_setR, xlen_setR, xE_setW, xsz_setW, xsl_setW, xtag_setW, xown_setW, xlen_setW, xi_setR, xi_setW, xr_setI, xr_setW, xww_setI, xww_setR, xi_setI, xr_setR, xww_setW, xE_new, xsz_new, xsl_new, hX.tx, hX.xp, hX.P.tag, hX.P.f0, hX.P.f1, hX.P.f2, hX.lt, hX.l0, hX.l1, hX.l5, hX.l2, hX.l7, hX.fat, hX.kat, hX.lat, hX.kao, txr, nr]) ?_
      refine xw_getS (b := p) (pc := 18) fd_X5_25 dX5_next_18 (by first | assumption | (simp [-List.getD_eq_getElem?_getD, xE_setI, xsz_setI, xsl_setI, xtag_setI, xown_setI, xlen_setI, xE_setR, xsz_setR, xsl_setR, xtag_setR, xown_setR, xlen_setR, xE_setW, xsz_setW, xsl_setW, xtag_setW, xown_setW, xlen_setW, xi_setR, xi_setW, xr_setI, xr_setW, xww_setI, xww_setR, xi_setI, xr_setR, xww_setW, xE_new, xsz_new, xsl_new, hX.tx, hX.xp, hX.P.tag, hX.P.f0, hX.P.f1, hX.P.f2, hX.lt, hX.l0, hX.l1, hX.l5, hX.l2, hX.l7, hX.fat, hX.kat, hX.lat, hX.kao, txr, nr, xsub]; done) | (simp [-List.getD_eq_getElem?_getD, xE_setI, xsz_setI, xsl_setI, xtag_setI, xown_setI, xlen_setI, xE_setR, xsz_setR, xsl_setR, xtag_setR, xown_setR, xlen_setR, xE_setW, xsz_setW, xsl_setW, xtag_setW, xown_setW, xlen_setW, xi_setR, xi_setW, xr_setI, xr_setW, xww_setI, xww_setR, xi_setI, xr_setR, xww_setW, xE_new, xsz_new, xsl_new, hX.tx, hX.xp, hX.P.tag, hX.P.f0, hX.P.f1, hX.P.f2, hX.lt, hX.l0, hX.l1, hX.l5, hX.l2, hX.l7, hX.fat, hX.kat, hX.lat, hX.kao, txr, nr] <;> rfl)) (by simp [-List.getD_eq_getElem?_getD, xE_setI, xsz_setI, xsl_setI, xtag_setI, xown_setI, xlen_setI, xE_setR, xsz_setR, xsl_setR, xtag_setR, xown_setR, xlen_setR, xE_setW, xsz_setW, xsl_setW, xtag_setW, xown_setW, xlen_setW, xi_setR, xi_setW, xr_setI, xr_setW, xww_setI, xww_setR, xi_setI, xr_setR, xww_setW, xE_new, xsz_new, xsl_new, hX.tx, hX.xp, hX.P.tag, hX.P.f0, hX.P.f1, hX.P.f2, hX.lt, hX.l0, hX.l1, hX.l5, hX.l2, hX.l7, hX.fat, hX.kat, hX.lat, hX.kao, txr, nr]) ?_
      refine xw_getS (b := (aL Z 2)) (pc := 21) fd_X5_92 dX5_next_21 (by first | assumption | (simp [-List.getD_eq_getElem?_getD, xE_setI, xsz_setI, xsl_setI, xtag_setI, xown_setI, xlen_setI, xE_setR, xsz_setR, xsl_setR, xtag_setR, xown_setR, xlen_setR, xE_setW, xsz_setW, xsl_setW, xtag_setW, xown_setW, xlen_setW, xi_setR, xi_setW, xr_setI, xr_setW, xww_setI, xww_setR, xi_setI, xr_setR, xww_setW, xE_new, xsz_new, xsl_new, hX.tx, hX.xp, hX.P.tag, hX.P.f0, hX.P.f1, hX.P.f2, hX.lt, hX.l0, hX.l1, hX.l5, hX.l2, hX.l7, hX.fat, hX.kat, hX.lat, hX.kao, txr, nr, xsub]; done) | (simp [-List.getD_eq_getElem?_getD, xE_setI, xsz_setI, xsl_setI, xtag_setI, xown_setI, xlen_setI, xE_setR, xsz_setR, xsl_setR, xtag_setR, xown_setR, xlen_setR, xE_setW, xsz_setW, xsl_setW, xtag_setW, xown_setW, xlen_setW, xi_setR, xi_setW, xr_setI, xr_setW, xww_setI, xww_setR, xi_setI, xr_setR, xww_setW, xE_new, xsz_new, xsl_new, hX.tx, hX.xp, hX.P.tag, hX.P.f0, hX.P.f1, hX.P.f2, hX.lt, hX.l0, hX.l1, hX.l5, hX.l2, hX.l7, hX.fat, hX.kat, hX.lat, hX.kao, txr, nr] <;> rfl)) (by simp [-List.getD_eq_getElem?_getD, xE_setI, xsz_setI, xsl_setI, xtag_setI, xown_setI, xlen_setI, xE_setR, xsz_setR, xsl_setR, xtag_setR, xown_setR, xlen_setR, xE_setW, xsz_setW, xsl_setW, xtag_setW, xown_setW, xlen_setW, xi_setR, xi_setW, xr_setI, xr_setW, xww_setI, xww_setR, xi_setI, xr_setR, xww_setW, xE_new, xsz_new, xsl_new, hX.tx, hX.xp, hX.P.tag, hX.P.f0, hX.P.f1, hX.P.f2, hX.lt, hX.l0, hX.l1, hX.l5, hX.l2, hX.l7, hX.fat, hX.kat, hX.lat, hX.kao, txr, nr]) ?_
      refine xw_callV (pc := 24) (xr_V (as := []) ok_J2_size rfl (by decide) q754 q702 q703 (by rw [hX.P.l1.1]; rfl) (by rw [hX.P.l1.1]; rfl) dX5_next_24 rfl rfl (Nat.le_of_ble_eq_true rfl)) (SP_J2_size hX.P.l1) ?_
      refine xw_icmp_ge (pc := 27) 144 dX5_next_27 rfl (fun hb27 => ?_) (fun hb27 => ?_)
      · replace hb27 : (aR Z).length ≤ i := (nI_leI (a := (aR Z).length) (b := i) (by omega) (by omega)).mp hb27
        refine xw_aload_n (pc := 144) dX5_next_144 1 rfl ?_
        refine xw_aret (pc := 145) (.object "PolicyNotation$Rule") dX5_next_145 rfl ?_
        have ei : i = rr := by omega
        subst ei
        exact ⟨by rw [show nxt s (cov s wo k day feats) H i r = nxB s (cov s wo k day feats) H r (i - r - 1) from rfl, hbo]; rfl, hX, hO⟩
      · replace hb27 : ¬ ((aR Z).length ≤ i) := mt (nI_leI (a := (aR Z).length) (b := i) (by omega) (by omega)).mpr hb27
        have hil : i < rr := by omega
        refine xw_aload_n (pc := 30) dX5_next_30 3 rfl ?_
        refine xw_getS (b := x) (pc := 31) fd_X5_3 dX5_next_31 (by first | assumption | (simp [-List.getD_eq_getElem?_getD, xE_setI, xsz_setI, xsl_setI, xtag_setI, xown_setI, xlen_setI, xE_setR, xsz_setR, xsl_setR, xtag_setR, xown_setR, xlen_setR, xE_setW, xsz_setW, xsl_setW, xtag_setW, xown_setW, xlen_setW, xi_setR, xi_setW, xr_setI, xr_setW, xww_setI, xww_setR, xi_setI, xr_setR, xww_setW, xE_new, xsz_new, xsl_new, hX.tx, hX.xp, hX.P.tag, hX.P.f0, hX.P.f1, hX.P.f2, hX.lt, hX.l0, hX.l1, hX.l5, hX.l2, hX.l7, hX.fat, hX.kat, hX.lat, hX.kao, txr, nr, xsub]; done) | (simp [-List.getD_eq_getElem?_getD, xE_setI, xsz_setI, xsl_setI, xtag_setI, xown_setI, xlen_setI, xE_setR, xsz_setR, xsl_setR, xtag_setR, xown_setR, xlen_setR, xE_setW, xsz_setW, xsl_setW, xtag_setW, xown_setW, xlen_setW, xi_setR, xi_setW, xr_setI, xr_setW, xww_setI, xww_setR, xi_setI, xr_setR, xww_setW, xE_new, xsz_new, xsl_new, hX.tx, hX.xp, hX.P.tag, hX.P.f0, hX.P.f1, hX.P.f2, hX.lt, hX.l0, hX.l1, hX.l5, hX.l2, hX.l7, hX.fat, hX.kat, hX.lat, hX.kao, txr, nr] <;> rfl)) (by simp [-List.getD_eq_getElem?_getD, xE_setI, xsz_setI, xsl_setI, xtag_setI, xown_setI, xlen_setI, xE_setR, xsz_setR, xsl_setR, xtag_setR, xown_setR, xlen_setR, xE_setW, xsz_setW, xsl_setW, xtag_setW, xown_setW, xlen_setW, xi_setR, xi_setW, xr_setI, xr_setW, xww_setI, xww_setR, xi_setI, xr_setR, xww_setW, xE_new, xsz_new, xsl_new, hX.tx, hX.xp, hX.P.tag, hX.P.f0, hX.P.f1, hX.P.f2, hX.lt, hX.l0, hX.l1, hX.l5, hX.l2, hX.l7, hX.fat, hX.kat, hX.lat, hX.kao, txr, nr]) ?_
        refine xw_getS (b := p) (pc := 34) fd_X5_25 dX5_next_34 (by first | assumption | (simp [-List.getD_eq_getElem?_getD, xE_setI, xsz_setI, xsl_setI, xtag_setI, xown_setI, xlen_setI, xE_setR, xsz_setR, xsl_setR, xtag_setR, xown_setR, xlen_setR, xE_setW, xsz_setW, xsl_setW, xtag_setW, xown_setW, xlen_setW, xi_setR, xi_setW, xr_setI, xr_setW, xww_setI, xww_setR, xi_setI, xr_setR, xww_setW, xE_new, xsz_new, xsl_new, hX.tx, hX.xp, hX.P.tag, hX.P.f0, hX.P.f1, hX.P.f2, hX.lt, hX.l0, hX.l1, hX.l5, hX.l2, hX.l7, hX.fat, hX.kat, hX.lat, hX.kao, txr, nr, xsub]; done) | (simp [-List.getD_eq_getElem?_getD, xE_setI, xsz_setI, xsl_setI, xtag_setI, xown_setI, xlen_setI, xE_setR, xsz_setR, xsl_setR, xtag_setR, xown_setR, xlen_setR, xE_setW, xsz_setW, xsl_setW, xtag_setW, xown_setW, xlen_setW, xi_setR, xi_setW, xr_setI, xr_setW, xww_setI, xww_setR, xi_setI, xr_setR, xww_setW, xE_new, xsz_new, xsl_new, hX.tx, hX.xp, hX.P.tag, hX.P.f0, hX.P.f1, hX.P.f2, hX.lt, hX.l0, hX.l1, hX.l5, hX.l2, hX.l7, hX.fat, hX.kat, hX.lat, hX.kao, txr, nr] <;> rfl)) (by simp [-List.getD_eq_getElem?_getD, xE_setI, xsz_setI, xsl_setI, xtag_setI, xown_setI, xlen_setI, xE_setR, xsz_setR, xsl_setR, xtag_setR, xown_setR, xlen_setR, xE_setW, xsz_setW, xsl_setW, xtag_setW, xown_setW, xlen_setW, xi_setR, xi_setW, xr_setI, xr_setW, xww_setI, xww_setR, xi_setI, xr_setR, xww_setW, xE_new, xsz_new, xsl_new, hX.tx, hX.xp, hX.P.tag, hX.P.f0, hX.P.f1, hX.P.f2, hX.lt, hX.l0, hX.l1, hX.l5, hX.l2, hX.l7, hX.fat, hX.kat, hX.lat, hX.kao, txr, nr]) ?_
        refine xw_getS (b := (aL Z 2)) (pc := 37) fd_X5_92 dX5_next_37 (by first | assumption | (simp [-List.getD_eq_getElem?_getD, xE_setI, xsz_setI, xsl_setI, xtag_setI, xown_setI, xlen_setI, xE_setR, xsz_setR, xsl_setR, xtag_setR, xown_setR, xlen_setR, xE_setW, xsz_setW, xsl_setW, xtag_setW, xown_setW, xlen_setW, xi_setR, xi_setW, xr_setI, xr_setW, xww_setI, xww_setR, xi_setI, xr_setR, xww_setW, xE_new, xsz_new, xsl_new, hX.tx, hX.xp, hX.P.tag, hX.P.f0, hX.P.f1, hX.P.f2, hX.lt, hX.l0, hX.l1, hX.l5, hX.l2, hX.l7, hX.fat, hX.kat, hX.lat, hX.kao, txr, nr, xsub]; done) | (simp [-List.getD_eq_getElem?_getD, xE_setI, xsz_setI, xsl_setI, xtag_setI, xown_setI, xlen_setI, xE_setR, xsz_setR, xsl_setR, xtag_setR, xown_setR, xlen_setR, xE_setW, xsz_setW, xsl_setW, xtag_setW, xown_setW, xlen_setW, xi_setR, xi_setW, xr_setI, xr_setW, xww_setI, xww_setR, xi_setI, xr_setR, xww_setW, xE_new, xsz_new, xsl_new, hX.tx, hX.xp, hX.P.tag, hX.P.f0, hX.P.f1, hX.P.f2, hX.lt, hX.l0, hX.l1, hX.l5, hX.l2, hX.l7, hX.fat, hX.kat, hX.lat, hX.kao, txr, nr] <;> rfl)) (by simp [-List.getD_eq_getElem?_getD, xE_setI, xsz_setI, xsl_setI, xtag_setI, xown_setI, xlen_setI, xE_setR, xsz_setR, xsl_setR, xtag_setR, xown_setR, xlen_setR, xE_setW, xsz_setW, xsl_setW, xtag_setW, xown_setW, xlen_setW, xi_setR, xi_setW, xr_setI, xr_setW, xww_setI, xww_setR, xi_setI, xr_setR, xww_setW, xE_new, xsz_new, xsl_new, hX.tx, hX.xp, hX.P.tag, hX.P.f0, hX.P.f1, hX.P.f2, hX.lt, hX.l0, hX.l1, hX.l5, hX.l2, hX.l7, hX.fat, hX.kat, hX.lat, hX.kao, txr, nr]) ?_
        refine xw_iload (pc := 40) dX5_next_40 0 rfl ?_
        refine xw_callV (pc := 42) (xr_V (as := [_]) ok_J2_get rfl (by decide) q740 q706 q707 (by rw [hX.P.l1.1]; rfl) (by rw [hX.P.l1.1]; rfl) dX5_next_42 rfl rfl (Nat.le_of_ble_eq_true rfl)) (SP_J2_get hX.P.l1 i (by rw [lr]; exact hil)) ?_
        refine xw_chkR (pc := 45) dX5_next_45 q755 (by exact hti hil) ?_
        refine xw_astore (l' := [(5, _), (4, _), (2, _), (3, _), (0, _), (1, _)]) (pc := 48) dX5_next_48 (by decide) rfl ?_
        refine xw_aload (pc := 50) dX5_next_50 0 rfl ?_
        refine xw_rof (pc := 52) (hti hil) dX5_next_52 q838 (Nat.le_of_ble_eq_true rfl) ?_
        rw [hof hil]
        refine xw_aload_n (pc := 55) dX5_next_55 5 rfl ?_
        refine xw_getNat (k := r) (pc := 56) fd_X5_68 dX5_next_56 (by first | assumption | (simp [-List.getD_eq_getElem?_getD, xE_setI, xsz_setI, xsl_setI, xtag_setI, xown_setI, xlen_setI, xE_setR, xsz_setR, xsl_setR, xtag_setR, xown_setR, xlen_setR, xE_setW, xsz_setW, xsl_setW, xtag_setW, xown_setW, xlen_setW, xi_setR, xi_setW, xr_setI, xr_setW, xww_setI, xww_setR, xi_setI, xr_setR, xww_setW, xE_new, xsz_new, xsl_new, hX.tx, hX.xp, hX.P.tag, hX.P.f0, hX.P.f1, hX.P.f2, hX.lt, hX.l0, hX.l1, hX.l5, hX.l2, hX.l7, hX.fat, hX.kat, hX.lat, hX.kao, txr, nr, xsub]; done) | (simp [-List.getD_eq_getElem?_getD, xE_setI, xsz_setI, xsl_setI, xtag_setI, xown_setI, xlen_setI, xE_setR, xsz_setR, xsl_setR, xtag_setR, xown_setR, xlen_setR, xE_setW, xsz_setW, xsl_setW, xtag_setW, xown_setW, xlen_setW, xi_setR, xi_setW, xr_setI, xr_setW, xww_setI, xww_setR, xi_setI, xr_setR, xww_setW, xE_new, xsz_new, xsl_new, hX.tx, hX.xp, hX.P.tag, hX.P.f0, hX.P.f1, hX.P.f2, hX.lt, hX.l0, hX.l1, hX.l5, hX.l2, hX.l7, hX.fat, hX.kat, hX.lat, hX.kao, txr, nr] <;> rfl)) (by simp [-List.getD_eq_getElem?_getD, xE_setI, xsz_setI, xsl_setI, xtag_setI, xown_setI, xlen_setI, xE_setR, xsz_setR, xsl_setR, xtag_setR, xown_setR, xlen_setR, xE_setW, xsz_setW, xsl_setW, xtag_setW, xown_setW, xlen_setW, xi_setR, xi_setW, xr_setI, xr_setW, xww_setI, xww_setR, xi_setI, xr_setR, xww_setW, xE_new, xsz_new, xsl_new, hX.tx, hX.xp, hX.P.tag, hX.P.f0, hX.P.f1, hX.P.f2, hX.lt, hX.l0, hX.l1, hX.l5, hX.l2, hX.l7, hX.fat, hX.kat, hX.lat, hX.kao, txr, nr]) ?_
        refine xw_icmp_ne (pc := 59) 138 dX5_next_59 rfl (fun hb59 => ?_) (fun hb59 => ?_)
        · refine xw_iinc (v := nI (i + 1)) (l' := [(4, _), (5, _), (2, _), (3, _), (0, _), (1, _)]) (pc := 138) dX5_next_138 1 rfl (nI_add _ 1) (by decide) rfl ?_
          refine xw_goto (pc := 141) 12 dX5_next_141 rfl ?_
          refine xw_pick (pc := 12) (l' := [(4, _), (2, _), (3, _), (0, _), (1, _)]) [0, 2, 3, 4, 5] rfl ?_
          have hst0 := hstep (fun z => hX.hc (by omega) z)
          first
          | (have e := hst0
             rw [show isPa s i r = false from decide_eq_false hb59, Bool.false_and, if_neg (by decide)] at e
             exact ih (i + 1) g (some b) ho (by omega) (by omega) (by omega) hX hO (congrArg Prod.fst e) (congrArg Prod.snd e))
          | (have e := hst0
             rw [hb68, Bool.and_false, if_neg (by decide)] at e
             exact ih (i + 1) g (some b) ho (by omega) (by omega) (by omega) hX hO (congrArg Prod.fst e) (congrArg Prod.snd e))
          | (have e := hst0
             rw [hpa, hb68, Bool.and_true, if_pos rfl] at e
             rw [if_pos (show ((H i && !ho) || (H i == ho && decide (s (23 + 20 * b + 2) < s (23 + 20 * i + 2)))) = true from by simp_all)] at e
             exact ih (i + 1) g74 (some i) (H i) (by omega) (by omega) (by omega) hc74.1 (hO.tr hc74.2) (congrArg Prod.fst e) (congrArg Prod.snd e))
          | (have e := hst0
             rw [hpa, hb68, Bool.and_true, if_pos rfl] at e
             rw [if_neg (show ¬ ((H i && !ho) || (H i == ho && decide (s (23 + 20 * b + 2) < s (23 + 20 * i + 2)))) = true from by cases hh1 : H i <;> cases hh2 : ho <;> simp_all)] at e
             exact ih (i + 1) g74 (some b) ho (by omega) (by omega) (by omega) hc74.1 (hO.tr hc74.2) (congrArg Prod.fst e) (congrArg Prod.snd e))
        · have hpa : isPa s i r = true := decide_eq_true hb59
          refine xw_aload_n (pc := 62) dX5_next_62 4 rfl ?_
          refine xw_aload (pc := 63) dX5_next_63 0 rfl ?_
          refine xw_callV (pc := 65) (xr_V (as := [_]) ok_X5_covers rfl (by decide) q773 q774 q775 (by rw [hX.lt]; rfl) (by rw [hX.lt]; rfl) dX5_next_65 rfl rfl (Nat.le_of_ble_eq_true rfl)) (SP_X5_cov (d := d + 33) hX hil) ?_
          refine xw_if_eq (pc := 68) 138 dX5_next_68 rfl (fun hb68 => ?_) (fun hb68 => ?_)
          · replace hb68 := bI_0.mp hb68
            refine xw_iinc (v := nI (i + 1)) (l' := [(4, _), (5, _), (2, _), (3, _), (0, _), (1, _)]) (pc := 138) dX5_next_138 1 rfl (nI_add _ 1) (by decide) rfl ?_
            refine xw_goto (pc := 141) 12 dX5_next_141 rfl ?_
            refine xw_pick (pc := 12) (l' := [(4, _), (2, _), (3, _), (0, _), (1, _)]) [0, 2, 3, 4, 5] rfl ?_
            have hst0 := hstep (fun z => hX.hc (by omega) z)
            first
            | (have e := hst0
               rw [show isPa s i r = false from decide_eq_false hb59, Bool.false_and, if_neg (by decide)] at e
               exact ih (i + 1) g (some b) ho (by omega) (by omega) (by omega) hX hO (congrArg Prod.fst e) (congrArg Prod.snd e))
            | (have e := hst0
               rw [hb68, Bool.and_false, if_neg (by decide)] at e
               exact ih (i + 1) g (some b) ho (by omega) (by omega) (by omega) hX hO (congrArg Prod.fst e) (congrArg Prod.snd e))
            | (have e := hst0
               rw [hpa, hb68, Bool.and_true, if_pos rfl] at e
               rw [if_pos (show ((H i && !ho) || (H i == ho && decide (s (23 + 20 * b + 2) < s (23 + 20 * i + 2)))) = true from by simp_all)] at e
               exact ih (i + 1) g74 (some i) (H i) (by omega) (by omega) (by omega) hc74.1 (hO.tr hc74.2) (congrArg Prod.fst e) (congrArg Prod.snd e))
            | (have e := hst0
               rw [hpa, hb68, Bool.and_true, if_pos rfl] at e
               rw [if_neg (show ¬ ((H i && !ho) || (H i == ho && decide (s (23 + 20 * b + 2) < s (23 + 20 * i + 2)))) = true from by cases hh1 : H i <;> cases hh2 : ho <;> simp_all)] at e
               exact ih (i + 1) g74 (some b) ho (by omega) (by omega) (by omega) hc74.1 (hO.tr hc74.2) (congrArg Prod.fst e) (congrArg Prod.snd e))
          · replace hb68 := bI_n0.mp hb68
            refine xw_aload_n (pc := 71) dX5_next_71 4 rfl ?_
            refine xw_aload (pc := 72) dX5_next_72 0 rfl ?_
            refine xw_callF (pc := 74) (xr_V (as := [_]) ok_X5_holds rfl (by decide) q765 q766 q767 (by rw [hX.lt]; rfl) (by rw [hX.lt]; rfl) dX5_next_74 rfl rfl (Nat.le_of_ble_eq_true rfl)) (SP_X5_holds (d := d) hX hil) ?_
            intro g74 hc74 hm74
            refine xw_istore (l' := [(6, _), (5, _), (4, _), (2, _), (3, _), (0, _), (1, _)]) (pc := 77) dX5_next_77 (by decide) rfl ?_
            refine xw_aload_n (pc := 79) dX5_next_79 3 rfl ?_
            refine xw_ifnull (pc := 80) dX5_next_80 ?_
            refine xw_iload (pc := 83) dX5_next_83 0 rfl ?_
            refine xw_if_eq (pc := 85) 92 dX5_next_85 rfl (fun hb85 => ?_) (fun hb85 => ?_)
            · replace hb85 := bI_0.mp hb85
              refine xw_iload (pc := 92) dX5_next_92 0 rfl ?_
              refine xw_iload_n (pc := 94) dX5_next_94 4 rfl ?_
              refine xw_icmp_ne (pc := 95) 111 dX5_next_95 rfl (fun hb95 => ?_) (fun hb95 => ?_)
              · refine xw_iconst (v := nI 0) (pc := 111) dX5_next_111 rfl ?_
                refine xw_istore (l' := [(7, _), (6, _), (5, _), (4, _), (2, _), (3, _), (0, _), (1, _)]) (pc := 112) dX5_next_112 (by decide) rfl ?_
                refine xw_iload (pc := 114) dX5_next_114 0 rfl ?_
                refine xw_if_eq (pc := 116) 124 dX5_next_116 rfl (fun _ => ?_) (fun hb => absurd hb (by decide))
                refine xw_aload_n (pc := 124) dX5_next_124 4 rfl ?_
                refine xw_astore_n (l' := [(2, _), (7, _), (6, _), (5, _), (4, _), (3, _), (0, _), (1, _)]) (pc := 125) dX5_next_125 rfl (by decide) rfl ?_
                refine xw_iload (pc := 126) dX5_next_126 1 rfl ?_
                refine xw_if_eq (pc := 128) 136 dX5_next_128 rfl (fun _ => ?_) (fun hb => absurd hb (by decide))
                refine xw_iload_n (pc := 136) dX5_next_136 5 rfl ?_
                refine xw_istore_n (l' := [(3, _), (2, _), (7, _), (6, _), (5, _), (4, _), (0, _), (1, _)]) (pc := 137) dX5_next_137 rfl (by decide) rfl ?_
                refine xw_iinc (v := nI (i + 1)) (l' := [(4, _), (3, _), (2, _), (7, _), (6, _), (5, _), (0, _), (1, _)]) (pc := 138) dX5_next_138 5 rfl (nI_add _ 1) (by decide) rfl ?_
                refine xw_goto (pc := 141) 12 dX5_next_141 rfl ?_
                refine xw_pick (pc := 12) (l' := [(4, _), (2, _), (3, _), (0, _), (1, _)]) [0, 2, 1, 6, 7] rfl ?_
                have hst0 := hstep (fun z => hX.hc (by omega) z)
                first
                | (have e := hst0
                   rw [show isPa s i r = false from decide_eq_false hb59, Bool.false_and, if_neg (by decide)] at e
                   exact ih (i + 1) g (some b) ho (by omega) (by omega) (by omega) hX hO (congrArg Prod.fst e) (congrArg Prod.snd e))
                | (have e := hst0
                   rw [hb68, Bool.and_false, if_neg (by decide)] at e
                   exact ih (i + 1) g (some b) ho (by omega) (by omega) (by omega) hX hO (congrArg Prod.fst e) (congrArg Prod.snd e))
                | (have e := hst0
                   rw [hpa, hb68, Bool.and_true, if_pos rfl] at e
                   rw [if_pos (show ((H i && !ho) || (H i == ho && decide (s (23 + 20 * b + 2) < s (23 + 20 * i + 2)))) = true from by simp_all)] at e
                   exact ih (i + 1) g74 (some i) (H i) (by omega) (by omega) (by omega) hc74.1 (hO.tr hc74.2) (congrArg Prod.fst e) (congrArg Prod.snd e))
                | (have e := hst0
                   rw [hpa, hb68, Bool.and_true, if_pos rfl] at e
                   rw [if_neg (show ¬ ((H i && !ho) || (H i == ho && decide (s (23 + 20 * b + 2) < s (23 + 20 * i + 2)))) = true from by cases hh1 : H i <;> cases hh2 : ho <;> simp_all)] at e
                   exact ih (i + 1) g74 (some b) ho (by omega) (by omega) (by omega) hc74.1 (hO.tr hc74.2) (congrArg Prod.fst e) (congrArg Prod.snd e))
              · have hbe : H i = ho := by cases hh1 : H i <;> cases hh2 : ho <;> simp_all [bI]
                refine xw_aload (pc := 98) dX5_next_98 1 rfl ?_
                refine xw_aload_n (pc := 100) dX5_next_100 3 rfl ?_
                refine xw_isAhead (pc := 101) (hc74.1.P.ru hil).1 (hah hil g74 hc74.1) dX5_next_101 q884 (Nat.le_of_ble_eq_true rfl) ?_
                refine xw_if_eq (pc := 104) 111 dX5_next_104 rfl (fun hb104 => ?_) (fun hb104 => ?_)
                · replace hb104 := bI_0.mp hb104
                  refine xw_iconst (v := nI 0) (pc := 111) dX5_next_111 rfl ?_
                  refine xw_istore (l' := [(7, _), (6, _), (5, _), (4, _), (2, _), (3, _), (0, _), (1, _)]) (pc := 112) dX5_next_112 (by decide) rfl ?_
                  refine xw_iload (pc := 114) dX5_next_114 0 rfl ?_
                  refine xw_if_eq (pc := 116) 124 dX5_next_116 rfl (fun _ => ?_) (fun hb => absurd hb (by decide))
                  refine xw_aload_n (pc := 124) dX5_next_124 4 rfl ?_
                  refine xw_astore_n (l' := [(2, _), (7, _), (6, _), (5, _), (4, _), (3, _), (0, _), (1, _)]) (pc := 125) dX5_next_125 rfl (by decide) rfl ?_
                  refine xw_iload (pc := 126) dX5_next_126 1 rfl ?_
                  refine xw_if_eq (pc := 128) 136 dX5_next_128 rfl (fun _ => ?_) (fun hb => absurd hb (by decide))
                  refine xw_iload_n (pc := 136) dX5_next_136 5 rfl ?_
                  refine xw_istore_n (l' := [(3, _), (2, _), (7, _), (6, _), (5, _), (4, _), (0, _), (1, _)]) (pc := 137) dX5_next_137 rfl (by decide) rfl ?_
                  refine xw_iinc (v := nI (i + 1)) (l' := [(4, _), (3, _), (2, _), (7, _), (6, _), (5, _), (0, _), (1, _)]) (pc := 138) dX5_next_138 5 rfl (nI_add _ 1) (by decide) rfl ?_
                  refine xw_goto (pc := 141) 12 dX5_next_141 rfl ?_
                  refine xw_pick (pc := 12) (l' := [(4, _), (2, _), (3, _), (0, _), (1, _)]) [0, 2, 1, 6, 7] rfl ?_
                  have hst0 := hstep (fun z => hX.hc (by omega) z)
                  first
                  | (have e := hst0
                     rw [show isPa s i r = false from decide_eq_false hb59, Bool.false_and, if_neg (by decide)] at e
                     exact ih (i + 1) g (some b) ho (by omega) (by omega) (by omega) hX hO (congrArg Prod.fst e) (congrArg Prod.snd e))
                  | (have e := hst0
                     rw [hb68, Bool.and_false, if_neg (by decide)] at e
                     exact ih (i + 1) g (some b) ho (by omega) (by omega) (by omega) hX hO (congrArg Prod.fst e) (congrArg Prod.snd e))
                  | (have e := hst0
                     rw [hpa, hb68, Bool.and_true, if_pos rfl] at e
                     rw [if_pos (show ((H i && !ho) || (H i == ho && decide (s (23 + 20 * b + 2) < s (23 + 20 * i + 2)))) = true from by simp_all)] at e
                     exact ih (i + 1) g74 (some i) (H i) (by omega) (by omega) (by omega) hc74.1 (hO.tr hc74.2) (congrArg Prod.fst e) (congrArg Prod.snd e))
                  | (have e := hst0
                     rw [hpa, hb68, Bool.and_true, if_pos rfl] at e
                     rw [if_neg (show ¬ ((H i && !ho) || (H i == ho && decide (s (23 + 20 * b + 2) < s (23 + 20 * i + 2)))) = true from by cases hh1 : H i <;> cases hh2 : ho <;> simp_all)] at e
                     exact ih (i + 1) g74 (some b) ho (by omega) (by omega) (by omega) hc74.1 (hO.tr hc74.2) (congrArg Prod.fst e) (congrArg Prod.snd e))
                · replace hb104 := bI_n0.mp hb104
                  refine xw_iconst (v := nI 1) (pc := 107) dX5_next_107 rfl ?_
                  refine xw_goto (pc := 108) 112 dX5_next_108 rfl ?_
                  refine xw_istore (l' := [(7, _), (6, _), (5, _), (4, _), (2, _), (3, _), (0, _), (1, _)]) (pc := 112) dX5_next_112 (by decide) rfl ?_
                  refine xw_iload (pc := 114) dX5_next_114 0 rfl ?_
                  refine xw_if_eq (pc := 116) 124 dX5_next_116 rfl (fun hb => absurd hb (by decide)) (fun _ => ?_)
                  refine xw_aload (pc := 119) dX5_next_119 2 rfl ?_
                  refine xw_goto (pc := 121) 125 dX5_next_121 rfl ?_
                  refine xw_astore_n (l' := [(2, _), (7, _), (6, _), (5, _), (4, _), (3, _), (0, _), (1, _)]) (pc := 125) dX5_next_125 rfl (by decide) rfl ?_
                  refine xw_iload (pc := 126) dX5_next_126 1 rfl ?_
                  refine xw_if_eq (pc := 128) 136 dX5_next_128 rfl (fun hb => absurd hb (by decide)) (fun _ => ?_)
                  refine xw_iload (pc := 131) dX5_next_131 2 rfl ?_
                  refine xw_goto (pc := 133) 137 dX5_next_133 rfl ?_
                  refine xw_istore_n (l' := [(3, _), (2, _), (7, _), (6, _), (5, _), (4, _), (0, _), (1, _)]) (pc := 137) dX5_next_137 rfl (by decide) rfl ?_
                  refine xw_iinc (v := nI (i + 1)) (l' := [(4, _), (3, _), (2, _), (7, _), (6, _), (5, _), (0, _), (1, _)]) (pc := 138) dX5_next_138 5 rfl (nI_add _ 1) (by decide) rfl ?_
                  refine xw_goto (pc := 141) 12 dX5_next_141 rfl ?_
                  refine xw_pick (pc := 12) (l' := [(4, _), (2, _), (3, _), (0, _), (1, _)]) [0, 2, 1, 6, 7] rfl ?_
                  have hst0 := hstep (fun z => hX.hc (by omega) z)
                  first
                  | (have e := hst0
                     rw [show isPa s i r = false from decide_eq_false hb59, Bool.false_and, if_neg (by decide)] at e
                     exact ih (i + 1) g (some b) ho (by omega) (by omega) (by omega) hX hO (congrArg Prod.fst e) (congrArg Prod.snd e))
                  | (have e := hst0
                     rw [hb68, Bool.and_false, if_neg (by decide)] at e
                     exact ih (i + 1) g (some b) ho (by omega) (by omega) (by omega) hX hO (congrArg Prod.fst e) (congrArg Prod.snd e))
                  | (have e := hst0
                     rw [hpa, hb68, Bool.and_true, if_pos rfl] at e
                     rw [if_pos (show ((H i && !ho) || (H i == ho && decide (s (23 + 20 * b + 2) < s (23 + 20 * i + 2)))) = true from by simp_all)] at e
                     exact ih (i + 1) g74 (some i) (H i) (by omega) (by omega) (by omega) hc74.1 (hO.tr hc74.2) (congrArg Prod.fst e) (congrArg Prod.snd e))
                  | (have e := hst0
                     rw [hpa, hb68, Bool.and_true, if_pos rfl] at e
                     rw [if_neg (show ¬ ((H i && !ho) || (H i == ho && decide (s (23 + 20 * b + 2) < s (23 + 20 * i + 2)))) = true from by cases hh1 : H i <;> cases hh2 : ho <;> simp_all)] at e
                     exact ih (i + 1) g74 (some b) ho (by omega) (by omega) (by omega) hc74.1 (hO.tr hc74.2) (congrArg Prod.fst e) (congrArg Prod.snd e))
            · replace hb85 := bI_n0.mp hb85
              refine xw_iload_n (pc := 88) dX5_next_88 4 rfl ?_
              refine xw_if_eq (pc := 89) 107 dX5_next_89 rfl (fun hb89 => ?_) (fun hb89 => ?_)
              · replace hb89 := bI_0.mp hb89
                refine xw_iconst (v := nI 1) (pc := 107) dX5_next_107 rfl ?_
                refine xw_goto (pc := 108) 112 dX5_next_108 rfl ?_
                refine xw_istore (l' := [(7, _), (6, _), (5, _), (4, _), (2, _), (3, _), (0, _), (1, _)]) (pc := 112) dX5_next_112 (by decide) rfl ?_
                refine xw_iload (pc := 114) dX5_next_114 0 rfl ?_
                refine xw_if_eq (pc := 116) 124 dX5_next_116 rfl (fun hb => absurd hb (by decide)) (fun _ => ?_)
                refine xw_aload (pc := 119) dX5_next_119 2 rfl ?_
                refine xw_goto (pc := 121) 125 dX5_next_121 rfl ?_
                refine xw_astore_n (l' := [(2, _), (7, _), (6, _), (5, _), (4, _), (3, _), (0, _), (1, _)]) (pc := 125) dX5_next_125 rfl (by decide) rfl ?_
                refine xw_iload (pc := 126) dX5_next_126 1 rfl ?_
                refine xw_if_eq (pc := 128) 136 dX5_next_128 rfl (fun hb => absurd hb (by decide)) (fun _ => ?_)
                refine xw_iload (pc := 131) dX5_next_131 2 rfl ?_
                refine xw_goto (pc := 133) 137 dX5_next_133 rfl ?_
                refine xw_istore_n (l' := [(3, _), (2, _), (7, _), (6, _), (5, _), (4, _), (0, _), (1, _)]) (pc := 137) dX5_next_137 rfl (by decide) rfl ?_
                refine xw_iinc (v := nI (i + 1)) (l' := [(4, _), (3, _), (2, _), (7, _), (6, _), (5, _), (0, _), (1, _)]) (pc := 138) dX5_next_138 5 rfl (nI_add _ 1) (by decide) rfl ?_
                refine xw_goto (pc := 141) 12 dX5_next_141 rfl ?_
                refine xw_pick (pc := 12) (l' := [(4, _), (2, _), (3, _), (0, _), (1, _)]) [0, 2, 1, 6, 7] rfl ?_
                have hst0 := hstep (fun z => hX.hc (by omega) z)
                first
                | (have e := hst0
                   rw [show isPa s i r = false from decide_eq_false hb59, Bool.false_and, if_neg (by decide)] at e
                   exact ih (i + 1) g (some b) ho (by omega) (by omega) (by omega) hX hO (congrArg Prod.fst e) (congrArg Prod.snd e))
                | (have e := hst0
                   rw [hb68, Bool.and_false, if_neg (by decide)] at e
                   exact ih (i + 1) g (some b) ho (by omega) (by omega) (by omega) hX hO (congrArg Prod.fst e) (congrArg Prod.snd e))
                | (have e := hst0
                   rw [hpa, hb68, Bool.and_true, if_pos rfl] at e
                   rw [if_pos (show ((H i && !ho) || (H i == ho && decide (s (23 + 20 * b + 2) < s (23 + 20 * i + 2)))) = true from by simp_all)] at e
                   exact ih (i + 1) g74 (some i) (H i) (by omega) (by omega) (by omega) hc74.1 (hO.tr hc74.2) (congrArg Prod.fst e) (congrArg Prod.snd e))
                | (have e := hst0
                   rw [hpa, hb68, Bool.and_true, if_pos rfl] at e
                   rw [if_neg (show ¬ ((H i && !ho) || (H i == ho && decide (s (23 + 20 * b + 2) < s (23 + 20 * i + 2)))) = true from by cases hh1 : H i <;> cases hh2 : ho <;> simp_all)] at e
                   exact ih (i + 1) g74 (some b) ho (by omega) (by omega) (by omega) hc74.1 (hO.tr hc74.2) (congrArg Prod.fst e) (congrArg Prod.snd e))
              · replace hb89 := bI_n0.mp hb89
                refine xw_iload (pc := 92) dX5_next_92 0 rfl ?_
                refine xw_iload_n (pc := 94) dX5_next_94 4 rfl ?_
                refine xw_icmp_ne (pc := 95) 111 dX5_next_95 rfl (fun hb95 => ?_) (fun hb95 => ?_)
                · refine xw_iconst (v := nI 0) (pc := 111) dX5_next_111 rfl ?_
                  refine xw_istore (l' := [(7, _), (6, _), (5, _), (4, _), (2, _), (3, _), (0, _), (1, _)]) (pc := 112) dX5_next_112 (by decide) rfl ?_
                  refine xw_iload (pc := 114) dX5_next_114 0 rfl ?_
                  refine xw_if_eq (pc := 116) 124 dX5_next_116 rfl (fun _ => ?_) (fun hb => absurd hb (by decide))
                  refine xw_aload_n (pc := 124) dX5_next_124 4 rfl ?_
                  refine xw_astore_n (l' := [(2, _), (7, _), (6, _), (5, _), (4, _), (3, _), (0, _), (1, _)]) (pc := 125) dX5_next_125 rfl (by decide) rfl ?_
                  refine xw_iload (pc := 126) dX5_next_126 1 rfl ?_
                  refine xw_if_eq (pc := 128) 136 dX5_next_128 rfl (fun _ => ?_) (fun hb => absurd hb (by decide))
                  refine xw_iload_n (pc := 136) dX5_next_136 5 rfl ?_
                  refine xw_istore_n (l' := [(3, _), (2, _), (7, _), (6, _), (5, _), (4, _), (0, _), (1, _)]) (pc := 137) dX5_next_137 rfl (by decide) rfl ?_
                  refine xw_iinc (v := nI (i + 1)) (l' := [(4, _), (3, _), (2, _), (7, _), (6, _), (5, _), (0, _), (1, _)]) (pc := 138) dX5_next_138 5 rfl (nI_add _ 1) (by decide) rfl ?_
                  refine xw_goto (pc := 141) 12 dX5_next_141 rfl ?_
                  refine xw_pick (pc := 12) (l' := [(4, _), (2, _), (3, _), (0, _), (1, _)]) [0, 2, 1, 6, 7] rfl ?_
                  have hst0 := hstep (fun z => hX.hc (by omega) z)
                  first
                  | (have e := hst0
                     rw [show isPa s i r = false from decide_eq_false hb59, Bool.false_and, if_neg (by decide)] at e
                     exact ih (i + 1) g (some b) ho (by omega) (by omega) (by omega) hX hO (congrArg Prod.fst e) (congrArg Prod.snd e))
                  | (have e := hst0
                     rw [hb68, Bool.and_false, if_neg (by decide)] at e
                     exact ih (i + 1) g (some b) ho (by omega) (by omega) (by omega) hX hO (congrArg Prod.fst e) (congrArg Prod.snd e))
                  | (have e := hst0
                     rw [hpa, hb68, Bool.and_true, if_pos rfl] at e
                     rw [if_pos (show ((H i && !ho) || (H i == ho && decide (s (23 + 20 * b + 2) < s (23 + 20 * i + 2)))) = true from by simp_all)] at e
                     exact ih (i + 1) g74 (some i) (H i) (by omega) (by omega) (by omega) hc74.1 (hO.tr hc74.2) (congrArg Prod.fst e) (congrArg Prod.snd e))
                  | (have e := hst0
                     rw [hpa, hb68, Bool.and_true, if_pos rfl] at e
                     rw [if_neg (show ¬ ((H i && !ho) || (H i == ho && decide (s (23 + 20 * b + 2) < s (23 + 20 * i + 2)))) = true from by cases hh1 : H i <;> cases hh2 : ho <;> simp_all)] at e
                     exact ih (i + 1) g74 (some b) ho (by omega) (by omega) (by omega) hc74.1 (hO.tr hc74.2) (congrArg Prod.fst e) (congrArg Prod.snd e))
                · have hbe : H i = ho := by cases hh1 : H i <;> cases hh2 : ho <;> simp_all [bI]
                  refine xw_aload (pc := 98) dX5_next_98 1 rfl ?_
                  refine xw_aload_n (pc := 100) dX5_next_100 3 rfl ?_
                  refine xw_isAhead (pc := 101) (hc74.1.P.ru hil).1 (hah hil g74 hc74.1) dX5_next_101 q884 (Nat.le_of_ble_eq_true rfl) ?_
                  refine xw_if_eq (pc := 104) 111 dX5_next_104 rfl (fun hb104 => ?_) (fun hb104 => ?_)
                  · replace hb104 := bI_0.mp hb104
                    refine xw_iconst (v := nI 0) (pc := 111) dX5_next_111 rfl ?_
                    refine xw_istore (l' := [(7, _), (6, _), (5, _), (4, _), (2, _), (3, _), (0, _), (1, _)]) (pc := 112) dX5_next_112 (by decide) rfl ?_
                    refine xw_iload (pc := 114) dX5_next_114 0 rfl ?_
                    refine xw_if_eq (pc := 116) 124 dX5_next_116 rfl (fun _ => ?_) (fun hb => absurd hb (by decide))
                    refine xw_aload_n (pc := 124) dX5_next_124 4 rfl ?_
                    refine xw_astore_n (l' := [(2, _), (7, _), (6, _), (5, _), (4, _), (3, _), (0, _), (1, _)]) (pc := 125) dX5_next_125 rfl (by decide) rfl ?_
                    refine xw_iload (pc := 126) dX5_next_126 1 rfl ?_
                    refine xw_if_eq (pc := 128) 136 dX5_next_128 rfl (fun _ => ?_) (fun hb => absurd hb (by decide))
                    refine xw_iload_n (pc := 136) dX5_next_136 5 rfl ?_
                    refine xw_istore_n (l' := [(3, _), (2, _), (7, _), (6, _), (5, _), (4, _), (0, _), (1, _)]) (pc := 137) dX5_next_137 rfl (by decide) rfl ?_
                    refine xw_iinc (v := nI (i + 1)) (l' := [(4, _), (3, _), (2, _), (7, _), (6, _), (5, _), (0, _), (1, _)]) (pc := 138) dX5_next_138 5 rfl (nI_add _ 1) (by decide) rfl ?_
                    refine xw_goto (pc := 141) 12 dX5_next_141 rfl ?_
                    refine xw_pick (pc := 12) (l' := [(4, _), (2, _), (3, _), (0, _), (1, _)]) [0, 2, 1, 6, 7] rfl ?_
                    have hst0 := hstep (fun z => hX.hc (by omega) z)
                    first
                    | (have e := hst0
                       rw [show isPa s i r = false from decide_eq_false hb59, Bool.false_and, if_neg (by decide)] at e
                       exact ih (i + 1) g (some b) ho (by omega) (by omega) (by omega) hX hO (congrArg Prod.fst e) (congrArg Prod.snd e))
                    | (have e := hst0
                       rw [hb68, Bool.and_false, if_neg (by decide)] at e
                       exact ih (i + 1) g (some b) ho (by omega) (by omega) (by omega) hX hO (congrArg Prod.fst e) (congrArg Prod.snd e))
                    | (have e := hst0
                       rw [hpa, hb68, Bool.and_true, if_pos rfl] at e
                       rw [if_pos (show ((H i && !ho) || (H i == ho && decide (s (23 + 20 * b + 2) < s (23 + 20 * i + 2)))) = true from by simp_all)] at e
                       exact ih (i + 1) g74 (some i) (H i) (by omega) (by omega) (by omega) hc74.1 (hO.tr hc74.2) (congrArg Prod.fst e) (congrArg Prod.snd e))
                    | (have e := hst0
                       rw [hpa, hb68, Bool.and_true, if_pos rfl] at e
                       rw [if_neg (show ¬ ((H i && !ho) || (H i == ho && decide (s (23 + 20 * b + 2) < s (23 + 20 * i + 2)))) = true from by cases hh1 : H i <;> cases hh2 : ho <;> simp_all)] at e
                       exact ih (i + 1) g74 (some b) ho (by omega) (by omega) (by omega) hc74.1 (hO.tr hc74.2) (congrArg Prod.fst e) (congrArg Prod.snd e))
                  · replace hb104 := bI_n0.mp hb104
                    refine xw_iconst (v := nI 1) (pc := 107) dX5_next_107 rfl ?_
                    refine xw_goto (pc := 108) 112 dX5_next_108 rfl ?_
                    refine xw_istore (l' := [(7, _), (6, _), (5, _), (4, _), (2, _), (3, _), (0, _), (1, _)]) (pc := 112) dX5_next_112 (by decide) rfl ?_
                    refine xw_iload (pc := 114) dX5_next_114 0 rfl ?_
                    refine xw_if_eq (pc := 116) 124 dX5_next_116 rfl (fun hb => absurd hb (by decide)) (fun _ => ?_)
                    refine xw_aload (pc := 119) dX5_next_119 2 rfl ?_
                    refine xw_goto (pc := 121) 125 dX5_next_121 rfl ?_
                    refine xw_astore_n (l' := [(2, _), (7, _), (6, _), (5, _), (4, _), (3, _), (0, _), (1, _)]) (pc := 125) dX5_next_125 rfl (by decide) rfl ?_
                    refine xw_iload (pc := 126) dX5_next_126 1 rfl ?_
                    refine xw_if_eq (pc := 128) 136 dX5_next_128 rfl (fun hb => absurd hb (by decide)) (fun _ => ?_)
                    refine xw_iload (pc := 131) dX5_next_131 2 rfl ?_
                    refine xw_goto (pc := 133) 137 dX5_next_133 rfl ?_
                    refine xw_istore_n (l' := [(3, _), (2, _), (7, _), (6, _), (5, _), (4, _), (0, _), (1, _)]) (pc := 137) dX5_next_137 rfl (by decide) rfl ?_
                    refine xw_iinc (v := nI (i + 1)) (l' := [(4, _), (3, _), (2, _), (7, _), (6, _), (5, _), (0, _), (1, _)]) (pc := 138) dX5_next_138 5 rfl (nI_add _ 1) (by decide) rfl ?_
                    refine xw_goto (pc := 141) 12 dX5_next_141 rfl ?_
                    refine xw_pick (pc := 12) (l' := [(4, _), (2, _), (3, _), (0, _), (1, _)]) [0, 2, 1, 6, 7] rfl ?_
                    have hst0 := hstep (fun z => hX.hc (by omega) z)
                    first
                    | (have e := hst0
                       rw [show isPa s i r = false from decide_eq_false hb59, Bool.false_and, if_neg (by decide)] at e
                       exact ih (i + 1) g (some b) ho (by omega) (by omega) (by omega) hX hO (congrArg Prod.fst e) (congrArg Prod.snd e))
                    | (have e := hst0
                       rw [hb68, Bool.and_false, if_neg (by decide)] at e
                       exact ih (i + 1) g (some b) ho (by omega) (by omega) (by omega) hX hO (congrArg Prod.fst e) (congrArg Prod.snd e))
                    | (have e := hst0
                       rw [hpa, hb68, Bool.and_true, if_pos rfl] at e
                       rw [if_pos (show ((H i && !ho) || (H i == ho && decide (s (23 + 20 * b + 2) < s (23 + 20 * i + 2)))) = true from by simp_all)] at e
                       exact ih (i + 1) g74 (some i) (H i) (by omega) (by omega) (by omega) hc74.1 (hO.tr hc74.2) (congrArg Prod.fst e) (congrArg Prod.snd e))
                    | (have e := hst0
                       rw [hpa, hb68, Bool.and_true, if_pos rfl] at e
                       rw [if_neg (show ¬ ((H i && !ho) || (H i == ho && decide (s (23 + 20 * b + 2) < s (23 + 20 * i + 2)))) = true from by cases hh1 : H i <;> cases hh2 : ho <;> simp_all)] at e
                       exact ih (i + 1) g74 (some b) ho (by omega) (by omega) (by omega) hc74.1 (hO.tr hc74.2) (congrArg Prod.fst e) (congrArg Prod.snd e))
theorem SP_X5_next {d r : Nat} {g : xG} {x lk fa ka la p n rr ww k : Nat} {Z : xAd} {s : Nat → Int32} {day feats wo : Int32} {H : Nat → Bool} (hX : xCs g x lk fa ka la p Z s n rr ww k day feats wo H) (hr : r < rr) : XM M_X5_next (d + 46) [.ref lk, .ref ((aR Z).getD r 0)] g (xVal (xref ((nxt s (cov s wo k day feats) H rr r).map (fun r => (aR Z).getD r 0))) (fun g' => xCs g' x lk fa ka la p Z s n rr ww k day feats wo H ∧ xOnly ka g g')) := by
  have txr := xRu_x (hX.P.ru hr)
  have nr : xi g ((aR Z).getD r 0) 0 = nI r := (hX.P.ru hr).2.1
  refine xm_of (by decide +kernel) (Nat.le_of_ble_eq_true rfl) ?_
  show XW _ _ 0 [(0, _), (1, _)] [] _ _
  refine xw_null (pc := 0) dX5_next_0 ?_
  refine xw_astore_n (l' := [(2, _), (0, _), (1, _)]) (pc := 1) dX5_next_1 rfl (by decide) rfl ?_
  refine xw_iconst (v := nI 0) (pc := 2) dX5_next_2 rfl ?_
  refine xw_istore_n (l' := [(3, _), (2, _), (0, _), (1, _)]) (pc := 3) dX5_next_3 rfl (by decide) rfl ?_
  refine xw_aload_n (pc := 4) dX5_next_4 3 rfl ?_
  refine xw_getNat (k := r) (pc := 5) fd_X5_68 dX5_next_5 (by first | assumption | (simp [-List.getD_eq_getElem?_getD, xE_setI, xsz_setI, xsl_setI, xtag_setI, xown_setI, xlen_setI, xE_setR, xsz_setR, xsl_setR, xtag_setR, xown_setR, xlen_setR, xE_setW, xsz_setW, xsl_setW, xtag_setW, xown_setW, xlen_setW, xi_setR, xi_setW, xr_setI, xr_setW, xww_setI, xww_setR, xi_setI, xr_setR, xww_setW, xE_new, xsz_new, xsl_new, hX.tx, hX.xp, hX.P.tag, hX.P.f0, hX.P.f1, hX.P.f2, hX.lt, hX.l0, hX.l1, hX.l5, hX.l2, hX.l7, hX.fat, hX.kat, hX.lat, hX.kao, txr, nr, xsub]; done) | (simp [-List.getD_eq_getElem?_getD, xE_setI, xsz_setI, xsl_setI, xtag_setI, xown_setI, xlen_setI, xE_setR, xsz_setR, xsl_setR, xtag_setR, xown_setR, xlen_setR, xE_setW, xsz_setW, xsl_setW, xtag_setW, xown_setW, xlen_setW, xi_setR, xi_setW, xr_setI, xr_setW, xww_setI, xww_setR, xi_setI, xr_setR, xww_setW, xE_new, xsz_new, xsl_new, hX.tx, hX.xp, hX.P.tag, hX.P.f0, hX.P.f1, hX.P.f2, hX.lt, hX.l0, hX.l1, hX.l5, hX.l2, hX.l7, hX.fat, hX.kat, hX.lat, hX.kao, txr, nr] <;> rfl)) (by simp [-List.getD_eq_getElem?_getD, xE_setI, xsz_setI, xsl_setI, xtag_setI, xown_setI, xlen_setI, xE_setR, xsz_setR, xsl_setR, xtag_setR, xown_setR, xlen_setR, xE_setW, xsz_setW, xsl_setW, xtag_setW, xown_setW, xlen_setW, xi_setR, xi_setW, xr_setI, xr_setW, xww_setI, xww_setR, xi_setI, xr_setR, xww_setW, xE_new, xsz_new, xsl_new, hX.tx, hX.xp, hX.P.tag, hX.P.f0, hX.P.f1, hX.P.f2, hX.lt, hX.l0, hX.l1, hX.l5, hX.l2, hX.l7, hX.fat, hX.kat, hX.lat, hX.kao, txr, nr]) ?_
  refine xw_iconst (v := nI 1) (pc := 8) dX5_next_8 rfl ?_
  refine xn_iadd (pc := 9) dX5_next_9 ?_
  refine xw_istore (l' := [(4, _), (3, _), (2, _), (0, _), (1, _)]) (pc := 10) dX5_next_10 (by decide) rfl ?_
  refine xw_pick (pc := 12) (l' := [(4, _), (2, _), (3, _), (0, _), (1, _)]) [0, 2, 1, 3, 4] rfl ?_
  exact lp_X5_next hr (rr + 1) (r + 1) g none false (by omega) (by omega) (by omega) hX xOnly.rf (by rw [show r + 1 - r - 1 = 0 from by omega]; rfl) (by rw [show r + 1 - r - 1 = 0 from by omega]; rfl)

