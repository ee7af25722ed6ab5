/-! CLASS 17: a case that is looked at; what holds -/
set_option maxRecDepth 100000
/-- only the cell a was written -/
def xOnly (a : Nat) (g g' : xG) : Prop := xE g' = xE g ∧ xsz g' = xsz g ∧ xsl g' = xsl g ∧ (∀ c, xtag g' c = xtag g c ∧ xown g' c = xown g c ∧ xlen g' c = xlen g c) ∧ ∀ c, c ≠ a → xc g' c = xc g c
theorem xOnly.rf {a : Nat} {g : xG} : xOnly a g g := ⟨rfl, rfl, rfl, fun _ => ⟨rfl, rfl, rfl⟩, fun _ _ => rfl⟩
theorem xOnly.tr {a : Nat} {g g1 g2 : xG} (h : xOnly a g g1) (q : xOnly a g1 g2) : xOnly a g g2 :=
  ⟨q.1.trans h.1, q.2.1.trans h.2.1, q.2.2.1.trans h.2.2.1, fun c => ⟨(q.2.2.2.1 c).1.trans (h.2.2.2.1 c).1, (q.2.2.2.1 c).2.1.trans (h.2.2.2.1 c).2.1, (q.2.2.2.1 c).2.2.trans (h.2.2.2.1 c).2.2⟩, fun c hc => (q.2.2.2.2 c hc).trans (h.2.2.2.2 c hc)⟩
theorem xOnly.si {a j : Nat} {v : Int32} {g g1 : xG} (h : xOnly a g g1) : xOnly a g (xsetI g1 a j v) :=
  h.tr ⟨rfl, rfl, rfl, fun _ => ⟨xtag_setI, xown_setI, xlen_setI⟩, fun _ hc => xc_setI hc⟩
theorem xOnly.fr {a o : Nat} {g g' : xG} (h : xOnly a g g') (ho : xown g a = o) : xFr (oEq o) 0 g g' :=
  ⟨h.1, Nat.le_of_eq h.2.1.symm, Nat.le_of_eq h.2.2.1.symm, by rw [h.2.1, h.2.2.1]; exact Nat.le_refl _, fun c _ => ⟨(h.2.2.2.1 c).1, (h.2.2.2.1 c).2.1, (h.2.2.2.1 c).2.2, fun hc => h.2.2.2.2 c (fun e => hc (by rw [e]; exact ho))⟩⟩
/-- the look lk of x, laid for a case of the policy p; what is known of its rules -/
def xCs (g : xG) (x lk fa ka la p : Nat) (Z : xAd) (s : Nat → Int32) (n rr ww k : Nat) (day feats wo : Int32) (H : Nat → Bool) : Prop := (xtag g x = 1 ∧ xown g x = 1 ∧ xr g x 0 = some p) ∧ xPol g p Z s n rr ww ∧ k < n ∧ xLook g lk fa ka la ((aC Z).getD k 0) feats day wo ∧ xr g lk 7 = some x ∧ (xown g lk = 6 ∧ xown g fa = 6 ∧ xown g ka = 6 ∧ xown g la = 6) ∧ (ka ≠ fa ∧ ka ≠ la ∧ fa ≠ la) ∧ H = hld (isPa s) rr (cov s wo k day feats) ∧
  ∀ r, r < rr → xi g ka r = nI 0 ∨ (xi g ka r = nI 1 ∧ H r = true) ∨ (xi g ka r = nI 2 ∧ H r = false)
section C17
variable {g g' : xG} {x lk fa ka la p n rr ww k : Nat} {Z : xAd} {s : Nat → Int32} {day feats wo : Int32} {H : Nat → Bool}
theorem xCs.tx (h : xCs g x lk fa ka la p Z s n rr ww k day feats wo H) : xtag g x = 1 := h.1.1
theorem xCs.ox (h : xCs g x lk fa ka la p Z s n rr ww k day feats wo H) : xown g x = 1 := h.1.2.1
theorem xCs.xp (h : xCs g x lk fa ka la p Z s n rr ww k day feats wo H) : xr g x 0 = some p := h.1.2.2
theorem xCs.P (h : xCs g x lk fa ka la p Z s n rr ww k day feats wo H) : xPol g p Z s n rr ww := h.2.1
theorem xCs.kn (h : xCs g x lk fa ka la p Z s n rr ww k day feats wo H) : k < n := h.2.2.1
theorem xCs.K (h : xCs g x lk fa ka la p Z s n rr ww k day feats wo H) : xLook g lk fa ka la ((aC Z).getD k 0) feats day wo := h.2.2.2.1
theorem xCs.l7 (h : xCs g x lk fa ka la p Z s n rr ww k day feats wo H) : xr g lk 7 = some x := h.2.2.2.2.1
theorem xCs.lko (h : xCs g x lk fa ka la p Z s n rr ww k day feats wo H) : xown g lk = 6 := h.2.2.2.2.2.1.1
theorem xCs.fao (h : xCs g x lk fa ka la p Z s n rr ww k day feats wo H) : xown g fa = 6 := h.2.2.2.2.2.1.2.1
theorem xCs.kao6 (h : xCs g x lk fa ka la p Z s n rr ww k day feats wo H) : xown g ka = 6 := h.2.2.2.2.2.1.2.2.1
theorem xCs.kao (h : xCs g x lk fa ka la p Z s n rr ww k day feats wo H) : ¬ xown g ka = 0 := by rw [h.kao6]; decide
theorem xCs.lao (h : xCs g x lk fa ka la p Z s n rr ww k day feats wo H) : xown g la = 6 := h.2.2.2.2.2.1.2.2.2
theorem xCs.ne (h : xCs g x lk fa ka la p Z s n rr ww k day feats wo H) : ka ≠ fa ∧ ka ≠ la ∧ fa ≠ la := h.2.2.2.2.2.2.1
theorem xCs.hH (h : xCs g x lk fa ka la p Z s n rr ww k day feats wo H) : H = hld (isPa s) rr (cov s wo k day feats) := h.2.2.2.2.2.2.2.1
theorem xCs.M (h : xCs g x lk fa ka la p Z s n rr ww k day feats wo H) {r : Nat} (hr : r < rr) : xi g ka r = nI 0 ∨ (xi g ka r = nI 1 ∧ H r = true) ∨ (xi g ka r = nI 2 ∧ H r = false) := h.2.2.2.2.2.2.2.2 r hr
theorem xCs.lt (h : xCs g x lk fa ka la p Z s n rr ww k day feats wo H) : xtag g lk = 4 := h.K.1
theorem xCs.l0 (h : xCs g x lk fa ka la p Z s n rr ww k day feats wo H) : xr g lk 0 = some fa := h.K.2.1
theorem xCs.l1 (h : xCs g x lk fa ka la p Z s n rr ww k day feats wo H) : xr g lk 1 = some ka := h.K.2.2.1
theorem xCs.l5 (h : xCs g x lk fa ka la p Z s n rr ww k day feats wo H) : xr g lk 5 = some la := h.K.2.2.2.1
theorem xCs.l2 (h : xCs g x lk fa ka la p Z s n rr ww k day feats wo H) : xr g lk 2 = some ((aC Z).getD k 0) := h.K.2.2.2.2.1
theorem xCs.fat (h : xCs g x lk fa ka la p Z s n rr ww k day feats wo H) : xtag g fa = 101 := h.K.2.2.2.2.2.2.2.1
theorem xCs.kat (h : xCs g x lk fa ka la p Z s n rr ww k day feats wo H) : xtag g ka = 101 := h.K.2.2.2.2.2.2.2.2.2.1
theorem xCs.kal (h : xCs g x lk fa ka la p Z s n rr ww k day feats wo H) : xlen g ka = 16 := h.K.2.2.2.2.2.2.2.2.2.2.1
theorem xCs.lat (h : xCs g x lk fa ka la p Z s n rr ww k day feats wo H) : xtag g la = 101 := h.K.2.2.2.2.2.2.2.2.2.2.2.1
theorem xCs.lal (h : xCs g x lk fa ka la p Z s n rr ww k day feats wo H) : xlen g la = 5 := h.K.2.2.2.2.2.2.2.2.2.2.2.2.1
theorem xCs.only (h : xCs g x lk fa ka la p Z s n rr ww k day feats wo H) (F : xOnly ka g g') (hM : ∀ r, r < rr → xi g' ka r = nI 0 ∨ (xi g' ka r = nI 1 ∧ H r = true) ∨ (xi g' ka r = nI 2 ∧ H r = false)) : xCs g' x lk fa ka la p Z s n rr ww k day feats wo H := by
  have hF := F.fr h.kao6
  have nx : x ≠ ka := fun e => by have h1 := h.tx; rw [e, h.kat] at h1; cases h1
  have nl : lk ≠ ka := fun e => by have h1 := h.lt; rw [e, h.kat] at h1; cases h1
  have ex := F.2.2.2.2 x nx
  have el := F.2.2.2.2 lk nl
  have ef := F.2.2.2.2 fa h.ne.1.symm
  obtain ⟨k1, k2, k3, k4, k5, k6, k7, k8, k9, k10, k11, k12, k13, k14⟩ := h.K
  have T := fun c => (F.2.2.2.1 c).1
  have W := fun c => (F.2.2.2.1 c).2.1
  have L := fun c => (F.2.2.2.1 c).2.2
  refine ⟨⟨(T x).trans h.tx, (W x).trans h.ox, (xr_of ex 0).trans h.xp⟩, h.P.fr hF (fun o h1 h2 => by have := h.P.p0; unfold oP at h1; unfold oEq at h2; omega) (by unfold oEq; omega), h.kn, ⟨(T lk).trans k1, (xr_of el 0).trans k2, (xr_of el 1).trans k3, (xr_of el 5).trans k4, (xr_of el 2).trans k5, (xi_of el 3).trans k6, (xi_of el 4).trans k7, (T fa).trans k8, (L fa).trans k9, (T ka).trans k10, (L ka).trans k11, (T la).trans k12, (L la).trans k13, fun f hf => (xi_of ef f).trans (k14 f hf)⟩, (xr_of el 7).trans h.l7, ⟨(W lk).trans h.lko, (W fa).trans h.fao, (W ka).trans h.kao6, (W la).trans h.lao⟩, h.ne, h.hH, hM⟩
end C17
theorem SP_X5_cov {d : Nat} {g : xG} {x lk fa ka la p n rr ww k : Nat} {Z : xAd} {s : Nat → Int32} {day feats wo : Int32} {H : Nat → Bool} (h : xCs g x lk fa ka la p Z s n rr ww k day feats wo H) {r : Nat} (hr : r < rr) : XM M_X5_covers (d + 12) [.ref lk, .ref ((aR Z).getD r 0)] g (xOne (some (.int (bI (cov s wo k day feats r)))) g) :=
  SP_X5_covers (h.P.ru hr) h.K h.P.sc h.P.wf.o h.P.wf.n10 h.kn hr h.P.wf.r
theorem lp_X5_finds {d r : Nat} {x lk fa ka la p n rr ww k : Nat} {Z : xAd} {s : Nat → Int32} {day feats wo : Int32} {H : Nat → Bool} {g0 : xG} (hr : r < rr) (hC : cov s wo k day feats r = true) (hh : ∀ i, r < i → i < rr → ∀ g, xCs g x lk fa ka la p Z s n rr ww k day feats wo H → XM M_X5_holds (d + 12) [.ref lk, .ref ((aR Z).getD i 0)] g (xVal (.int (bI (H i))) (fun g' => xCs g' x lk fa ka la p Z s n rr ww k day feats wo H ∧ xOnly ka g g'))) : ∀ (j i : Nat) (g : xG), rr - i < j → r + 1 ≤ i → i ≤ rr → xCs g x lk fa ka la p Z s n rr ww k day feats wo H → xOnly ka g0 g → anyK (fun i => isPa s (r + 1 + i) r && H (r + 1 + i)) (i - r - 1) = false → XW M_X5_finds (d + 13) 17 [(2, .int (nI i)), (0, .ref lk), (1, .ref ((aR Z).getD r 0))] [] g (xVal (.int (bI (H r))) (fun g' => xCs g' x lk fa ka la p Z s n rr ww k day feats wo H ∧ xOnly ka g0 g')) := by
  intro j
  induction j with
  | zero => intro i g h; omega
  | succ j ih =>
    intro i g hij hi1 hi2 hX hO hA
    have r16 := hX.P.wf.r16
    have lr := hX.P.lr
    have hb1 := (hX.P.ru hr).1
    have txr := xRu_x (hX.P.ru hr)
    have nr : xi g ((aR Z).getD r 0) 0 = nI r := (hX.P.ru hr).2.1
    have hst : ∀ i', i' = i - r - 1 → i < rr → anyK (fun i => isPa s (r + 1 + i) r && H (r + 1 + i)) (i + 1 - r - 1) = (false || (isPa s i r && H i)) := by
      intro i' e hi
      rw [show i + 1 - r - 1 = (i - r - 1) + 1 from by omega]
      show (anyK (fun i => isPa s (r + 1 + i) r && H (r + 1 + i)) (i - r - 1) || (isPa s (r + 1 + (i - r - 1)) r && H (r + 1 + (i - r - 1)))) = _
      rw [hA, show r + 1 + (i - r - 1) = i from by omega]
    have hfin : i = rr → H r = true := by
      intro e
      have hH := hX.hH
      rw [hH, hld_eq hr, hC]
      rw [e, show rr - r - 1 = rr - r - 1 from rfl] at hA
      rw [hH] at hA
      rw [hA]
      rfl
    have hfal : i < rr → isPa s i r = true → H i = true → H r = false := by
      intro hi e1 e2
      have hH := hX.hH
      have ha : anyK (fun i => isPa s (r + 1 + i) r && H (r + 1 + i)) (rr - r - 1) = true := anyK_t (x := i - r - 1) (by omega) (by rw [show r + 1 + (i - r - 1) = i from by omega, e1, e2]; rfl)
      rw [hH, hld_eq hr, ← hH]
      rw [ha, Bool.not_true, Bool.and_false]
    have hof : i < rr → rOf g ((aR Z).getD i 0) = s (23 + 20 * i + 5) := fun hi => (hX.P.ru hi).2.2.2.2.2.2.2.2.2.2.1
    have hti : i < rr → xtag g ((aR Z).getD i 0) = 6 ∨ xtag g ((aR Z).getD i 0) = 7 := fun hi => (hX.P.ru hi).1
    refine xw_iload_n (pc := 17) dX5_finds_17 0 rfl ?_
    refine xw_aload_n (pc := 18) dX5_finds_18 1 rfl ?_
    refine xw_getS (b := x) (pc := 19) fd_X5_3 dX5_finds_19 (by first | assumption | (simp [-List.getD_eq_getElem?_getD, xE_setI, xsz_setI, xsl_setI, xtag_setI, xown_setI, xlen_setI, xE_setR, xsz_setR, xsl_setR, xtag_setR, xown_setR, xlen_setR, xE_setW, xsz_setW, xsl_setW, xtag_setW, xown_setW, xlen_setW, xi_setR, xi_setW, xr_setI, xr_setW, xww_setI, xww_setR, xi_setI, xr_setR, xww_setW, xE_new, xsz_new, xsl_new, hX.tx, hX.xp, hX.P.tag, hX.P.f0, hX.P.f1, hX.P.f2, hX.lt, hX.l0, hX.l1, hX.l5, hX.l2, hX.l7, hX.fat, hX.kat, hX.lat, hX.kao, txr, nr, xsub]; done) | (simp [-List.getD_eq_getElem?_getD, xE_setI, xsz_setI, xsl_setI, xtag_setI, xown_setI, xlen_setI, xE_setR, xsz_setR, xsl_setR, xtag_setR, xown_setR, xlen_setR, xE_setW, xsz_setW, xsl_setW, xtag_setW, xown_setW, xlen_setW, xi_setR, xi_setW, xr_setI, xr_setW, xww_setI, xww_setR, xi_setI, xr_setR, xww_setW, xE_new, xsz_new, xsl_new, hX.tx, hX.xp, hX.P.tag, hX.P.f0, hX.P.f1, hX.P.f2, hX.lt, hX.l0, hX.l1, hX.l5, hX.l2, hX.l7, hX.fat, hX.kat, hX.lat, hX.kao, txr, nr] <;> rfl)) (by simp [-List.getD_eq_getElem?_getD, xE_setI, xsz_setI, xsl_setI, xtag_setI, xown_setI, xlen_setI, xE_setR, xsz_setR, xsl_setR, xtag_setR, xown_setR, xlen_setR, xE_setW, xsz_setW, xsl_setW, xtag_setW, xown_setW, xlen_setW, xi_setR, xi_setW, xr_setI, xr_setW, xww_setI, xww_setR, xi_setI, xr_setR, xww_setW, xE_new, xsz_new, xsl_new, hX.tx, hX.xp, hX.P.tag, hX.P.f0, hX.P.f1, hX.P.f2, hX.lt, hX.l0, hX.l1, hX.l5, hX.l2, hX.l7, hX.fat, hX.kat, hX.lat, hX.kao, txr, nr]) ?_
    refine xw_getS (b := p) (pc := 22) fd_X5_25 dX5_finds_22 (by first | assumption | (simp [-List.getD_eq_getElem?_getD, xE_setI, xsz_setI, xsl_setI, xtag_setI, xown_setI, xlen_setI, xE_setR, xsz_setR, xsl_setR, xtag_setR, xown_setR, xlen_setR, xE_setW, xsz_setW, xsl_setW, xtag_setW, xown_setW, xlen_setW, xi_setR, xi_setW, xr_setI, xr_setW, xww_setI, xww_setR, xi_setI, xr_setR, xww_setW, xE_new, xsz_new, xsl_new, hX.tx, hX.xp, hX.P.tag, hX.P.f0, hX.P.f1, hX.P.f2, hX.lt, hX.l0, hX.l1, hX.l5, hX.l2, hX.l7, hX.fat, hX.kat, hX.lat, hX.kao, txr, nr, xsub]; done) | (simp [-List.getD_eq_getElem?_getD, xE_setI, xsz_setI, xsl_setI, xtag_setI, xown_setI, xlen_setI, xE_setR, xsz_setR, xsl_setR, xtag_setR, xown_setR, xlen_setR, xE_setW, xsz_setW, xsl_setW, xtag_setW, xown_setW, xlen_setW, xi_setR, xi_setW, xr_setI, xr_setW, xww_setI, xww_setR, xi_setI, xr_setR, xww_setW, xE_new, xsz_new, xsl_new, hX.tx, hX.xp, hX.P.tag, hX.P.f0, hX.P.f1, hX.P.f2, hX.lt, hX.l0, hX.l1, hX.l5, hX.l2, hX.l7, hX.fat, hX.kat, hX.lat, hX.kao, txr, nr] <;> rfl)) (by simp [-List.getD_eq_getElem?_getD, xE_setI, xsz_setI, xsl_setI, xtag_setI, xown_setI, xlen_setI, xE_setR, xsz_setR, xsl_setR, xtag_setR, xown_setR, xlen_setR, xE_setW, xsz_setW, xsl_setW, xtag_setW, xown_setW, xlen_setW, xi_setR, xi_setW, xr_setI, xr_setW, xww_setI, xww_setR, xi_setI, xr_setR, xww_setW, xE_new, xsz_new, xsl_new, hX.tx, hX.xp, hX.P.tag, hX.P.f0, hX.P.f1, hX.P.f2, hX.lt, hX.l0, hX.l1, hX.l5, hX.l2, hX.l7, hX.fat, hX.kat, hX.lat, hX.kao, txr, nr]) ?_
    refine xw_getS (b := (aL Z 2)) (pc := 25) fd_X5_92 dX5_finds_25 (by first | assumption | (simp [-List.getD_eq_getElem?_getD, xE_setI, xsz_setI, xsl_setI, xtag_setI, xown_setI, xlen_setI, xE_setR, xsz_setR, xsl_setR, xtag_setR, xown_setR, xlen_setR, xE_setW, xsz_setW, xsl_setW, xtag_setW, xown_setW, xlen_setW, xi_setR, xi_setW, xr_setI, xr_setW, xww_setI, xww_setR, xi_setI, xr_setR, xww_setW, xE_new, xsz_new, xsl_new, hX.tx, hX.xp, hX.P.tag, hX.P.f0, hX.P.f1, hX.P.f2, hX.lt, hX.l0, hX.l1, hX.l5, hX.l2, hX.l7, hX.fat, hX.kat, hX.lat, hX.kao, txr, nr, xsub]; done) | (simp [-List.getD_eq_getElem?_getD, xE_setI, xsz_setI, xsl_setI, xtag_setI, xown_setI, xlen_setI, xE_setR, xsz_setR, xsl_setR, xtag_setR, xown_setR, xlen_setR, xE_setW, xsz_setW, xsl_setW, xtag_setW, xown_setW, xlen_setW, xi_setR, xi_setW, xr_setI, xr_setW, xww_setI, xww_setR, xi_setI, xr_setR, xww_setW, xE_new, xsz_new, xsl_new, hX.tx, hX.xp, hX.P.tag, hX.P.f0, hX.P.f1, hX.P.f2, hX.lt, hX.l0, hX.l1, hX.l5, hX.l2, hX.l7, hX.fat, hX.kat, hX.lat, hX.kao, txr, nr] <;> rfl)) (by simp [-List.getD_eq_getElem?_getD, xE_setI, xsz_setI, xsl_setI, xtag_setI, xown_setI, xlen_setI, xE_setR, xsz_setR, xsl_setR, xtag_setR, xown_setR, xlen_setR, xE_setW, xsz_setW, xsl_setW, xtag_setW, xown_setW, xlen_setW, xi_setR, xi_setW, xr_setI, xr_setW, xww_setI, xww_setR, xi_setI, xr_setR, xww_setW, xE_new, xsz_new, xsl_new, hX.tx, hX.xp, hX.P.tag, hX.P.f0, hX.P.f1, hX.P.f2, hX.lt, hX.l0, hX.l1, hX.l5, hX.l2, hX.l7, hX.fat, hX.kat, hX.lat, hX.kao, txr, nr]) ?_
    refine xw_callV (pc := 28) (xr_V (as := []) ok_J2_size rfl (by decide) q754 q702 q703 (by rw [hX.P.l1.1]; rfl) (by rw [hX.P.l1.1]; rfl) dX5_finds_28 rfl rfl (Nat.le_of_ble_eq_true rfl)) (SP_J2_size hX.P.l1) ?_
    refine xw_icmp_ge (pc := 31) 79 dX5_finds_31 rfl (fun hb31 => ?_) (fun hb31 => ?_)
    · replace hb31 : (aR Z).length ≤ i := (nI_leI (a := (aR Z).length) (b := i) (by omega) (by omega)).mp hb31
      refine xw_iconst (v := nI 1) (pc := 79) dX5_finds_79 rfl ?_
      refine xw_iret (pc := 80) .boolean dX5_finds_80 rfl ?_ 
      refine ⟨congrArg (fun x => Sum.inl (some (Value.int x))) ?_, hX, hO⟩
      rw [hfin (by omega)]
      rfl
    · replace hb31 : ¬ ((aR Z).length ≤ i) := mt (nI_leI (a := (aR Z).length) (b := i) (by omega) (by omega)).mpr hb31
      have hil2 : i < rr := by omega
      have hil : i < (aR Z).length := by rw [lr]; exact hil2
      refine xw_aload_n (pc := 34) dX5_finds_34 1 rfl ?_
      refine xw_getS (b := x) (pc := 35) fd_X5_3 dX5_finds_35 (by first | assumption | (simp [-List.getD_eq_getElem?_getD, xE_setI, xsz_setI, xsl_setI, xtag_setI, xown_setI, xlen_setI, xE_setR, xsz_setR, xsl_setR, xtag_setR, xown_setR, xlen_setR, xE_setW, xsz_setW, xsl_setW, xtag_setW, xown_setW, xlen_setW, xi_setR, xi_setW, xr_setI, xr_setW, xww_setI, xww_setR, xi_setI, xr_setR, xww_setW, xE_new, xsz_new, xsl_new, hX.tx, hX.xp, hX.P.tag, hX.P.f0, hX.P.f1, hX.P.f2, hX.lt, hX.l0, hX.l1, hX.l5, hX.l2, hX.l7, hX.fat, hX.kat, hX.lat, hX.kao, txr, nr, xsub]; done) | (simp [-List.getD_eq_getElem?_getD, xE_setI, xsz_setI, xsl_setI, xtag_setI, xown_setI, xlen_setI, xE_setR, xsz_setR, xsl_setR, xtag_setR, xown_setR, xlen_setR, xE_setW, xsz_setW, xsl_setW, xtag_setW, xown_setW, xlen_setW, xi_setR, xi_setW, xr_setI, xr_setW, xww_setI, xww_setR, xi_setI, xr_setR, xww_setW, xE_new, xsz_new, xsl_new, hX.tx, hX.xp, hX.P.tag, hX.P.f0, hX.P.f1, hX.P.f2, hX.lt, hX.l0, hX.l1, hX.l5, hX.l2, hX.l7, hX.fat, hX.kat, hX.lat, hX.kao, txr, nr] <;> rfl)) (by simp [-List.getD_eq_getElem?_getD, xE_setI, xsz_setI, xsl_setI, xtag_setI, xown_setI, xlen_setI, xE_setR, xsz_setR, xsl_setR, xtag_setR, xown_setR, xlen_setR, xE_setW, xsz_setW, xsl_setW, xtag_setW, xown_setW, xlen_setW, xi_setR, xi_setW, xr_setI, xr_setW, xww_setI, xww_setR, xi_setI, xr_setR, xww_setW, xE_new, xsz_new, xsl_new, hX.tx, hX.xp, hX.P.tag, hX.P.f0, hX.P.f1, hX.P.f2, hX.lt, hX.l0, hX.l1, hX.l5, hX.l2, hX.l7, hX.fat, hX.kat, hX.lat, hX.kao, txr, nr]) ?_
      refine xw_getS (b := p) (pc := 38) fd_X5_25 dX5_finds_38 (by first | assumption | (simp [-List.getD_eq_getElem?_getD, xE_setI, xsz_setI, xsl_setI, xtag_setI, xown_setI, xlen_setI, xE_setR, xsz_setR, xsl_setR, xtag_setR, xown_setR, xlen_setR, xE_setW, xsz_setW, xsl_setW, xtag_setW, xown_setW, xlen_setW, xi_setR, xi_setW, xr_setI, xr_setW, xww_setI, xww_setR, xi_setI, xr_setR, xww_setW, xE_new, xsz_new, xsl_new, hX.tx, hX.xp, hX.P.tag, hX.P.f0, hX.P.f1, hX.P.f2, hX.lt, hX.l0, hX.l1, hX.l5, hX.l2, hX.l7, hX.fat, hX.kat, hX.lat, hX.kao, txr, nr, xsub]; done) | (simp [-List.getD_eq_getElem?_getD, xE_setI, xsz_setI, xsl_setI, xtag_setI, xown_setI, xlen_setI, xE_setR, xsz_setR, xsl_setR, xtag_setR, xown_setR, xlen_setR, xE_setW, xsz_setW, xsl_setW, xtag_setW, xown_setW, xlen_setW, xi_setR, xi_setW, xr_setI, xr_setW, xww_setI, xww_setR, xi_setI, xr_setR, xww_setW, xE_new, xsz_new, xsl_new, hX.tx, hX.xp, hX.P.tag, hX.P.f0, hX.P.f1, hX.P.f2, hX.lt, hX.l0, hX.l1, hX.l5, hX.l2, hX.l7, hX.fat, hX.kat, hX.lat, hX.kao, txr, nr] <;> rfl)) (by simp [-List.getD_eq_getElem?_getD, xE_setI, xsz_setI, xsl_setI, xtag_setI, xown_setI, xlen_setI, xE_setR, xsz_setR, xsl_setR, xtag_setR, xown_setR, xlen_setR, xE_setW, xsz_setW, xsl_setW, xtag_setW, xown_setW, xlen_setW, xi_setR, xi_setW, xr_setI, xr_setW, xww_setI, xww_setR, xi_setI, xr_setR, xww_setW, xE_new, xsz_new, xsl_new, hX.tx, hX.xp, hX.P.tag, hX.P.f0, hX.P.f1, hX.P.f2, hX.lt, hX.l0, hX.l1, hX.l5, hX.l2, hX.l7, hX.fat, hX.kat, hX.lat, hX.kao, txr, nr]) ?_
      refine xw_getS (b := (aL Z 2)) (pc := 41) fd_X5_92 dX5_finds_41 (by first | assumption | (simp [-List.getD_eq_getElem?_getD, xE_setI, xsz_setI, xsl_setI, xtag_setI, xown_setI, xlen_setI, xE_setR, xsz_setR, xsl_setR, xtag_setR, xown_setR, xlen_setR, xE_setW, xsz_setW, xsl_setW, xtag_setW, xown_setW, xlen_setW, xi_setR, xi_setW, xr_setI, xr_setW, xww_setI, xww_setR, xi_setI, xr_setR, xww_setW, xE_new, xsz_new, xsl_new, hX.tx, hX.xp, hX.P.tag, hX.P.f0, hX.P.f1, hX.P.f2, hX.lt, hX.l0, hX.l1, hX.l5, hX.l2, hX.l7, hX.fat, hX.kat, hX.lat, hX.kao, txr, nr, xsub]; done) | (simp [-List.getD_eq_getElem?_getD, xE_setI, xsz_setI, xsl_setI, xtag_setI, xown_setI, xlen_setI, xE_setR, xsz_setR, xsl_setR, xtag_setR, xown_setR, xlen_setR, xE_setW, xsz_setW, xsl_setW, xtag_setW, xown_setW, xlen_setW, xi_setR, xi_setW, xr_setI, xr_setW, xww_setI, xww_setR, xi_setI, xr_setR, xww_setW, xE_new, xsz_new, xsl_new, hX.tx, hX.xp, hX.P.tag, hX.P.f0, hX.P.f1, hX.P.f2, hX.lt, hX.l0, hX.l1, hX.l5, hX.l2, hX.l7, hX.fat, hX.kat, hX.lat, hX.kao, txr, nr] <;> rfl)) (by simp [-List.getD_eq_getElem?_getD, xE_setI, xsz_setI, xsl_setI, xtag_setI, xown_setI, xlen_setI, xE_setR, xsz_setR, xsl_setR, xtag_setR, xown_setR, xlen_setR, xE_setW, xsz_setW, xsl_setW, xtag_setW, xown_setW, xlen_setW, xi_setR, xi_setW, xr_setI, xr_setW, xww_setI, xww_setR, xi_setI, xr_setR, xww_setW, xE_new, xsz_new, xsl_new, hX.tx, hX.xp, hX.P.tag, hX.P.f0, hX.P.f1, hX.P.f2, hX.lt, hX.l0, hX.l1, hX.l5, hX.l2, hX.l7, hX.fat, hX.kat, hX.lat, hX.kao, txr, nr]) ?_
      refine xw_iload_n (pc := 44) dX5_finds_44 0 rfl ?_
      refine xw_callV (pc := 45) (xr_V (as := [_]) ok_J2_get rfl (by decide) q740 q706 q707 (by rw [hX.P.l1.1]; rfl) (by rw [hX.P.l1.1]; rfl) dX5_finds_45 rfl rfl (Nat.le_of_ble_eq_true rfl)) (SP_J2_get hX.P.l1 i hil) ?_
      refine xw_chkR (pc := 48) dX5_finds_48 q755 (by exact hti hil2) ?_
      refine xw_astore_n (l' := [(3, _), (2, _), (0, _), (1, _)]) (pc := 51) dX5_finds_51 rfl (by decide) rfl ?_
      refine xw_aload_n (pc := 52) dX5_finds_52 0 rfl ?_
      refine xw_rof (pc := 53) (hti hil2) dX5_finds_53 q838 (Nat.le_of_ble_eq_true rfl) ?_
      rw [hof hil2]
      refine xw_aload_n (pc := 56) dX5_finds_56 3 rfl ?_
      refine xw_getNat (k := r) (pc := 57) fd_X5_68 dX5_finds_57 (by first | assumption | (simp [-List.getD_eq_getElem?_getD, xE_setI, xsz_setI, xsl_setI, xtag_setI, xown_setI, xlen_setI, xE_setR, xsz_setR, xsl_setR, xtag_setR, xown_setR, xlen_setR, xE_setW, xsz_setW, xsl_setW, xtag_setW, xown_setW, xlen_setW, xi_setR, xi_setW, xr_setI, xr_setW, xww_setI, xww_setR, xi_setI, xr_setR, xww_setW, xE_new, xsz_new, xsl_new, hX.tx, hX.xp, hX.P.tag, hX.P.f0, hX.P.f1, hX.P.f2, hX.lt, hX.l0, hX.l1, hX.l5, hX.l2, hX.l7, hX.fat, hX.kat, hX.lat, hX.kao, txr, nr, xsub]; done) | (simp [-List.getD_eq_getElem?_getD, xE_setI, xsz_setI, xsl_setI, xtag_setI, xown_setI, xlen_setI, xE_setR, xsz_setR, xsl_setR, xtag_setR, xown_setR, xlen_setR, xE_setW, xsz_setW, xsl_setW, xtag_setW, xown_setW, xlen_setW, xi_setR, xi_setW, xr_setI, xr_setW, xww_setI, xww_setR, xi_setI, xr_setR, xww_setW, xE_new, xsz_new, xsl_new, hX.tx, hX.xp, hX.P.tag, hX.P.f0, hX.P.f1, hX.P.f2, hX.lt, hX.l0, hX.l1, hX.l5, hX.l2, hX.l7, hX.fat, hX.kat, hX.lat, hX.kao, txr, nr] <;> rfl)) (by simp [-List.getD_eq_getElem?_getD, xE_setI, xsz_setI, xsl_setI, xtag_setI, xown_setI, xlen_setI, xE_setR, xsz_setR, xsl_setR, xtag_setR, xown_setR, xlen_setR, xE_setW, xsz_setW, xsl_setW, xtag_setW, xown_setW, xlen_setW, xi_setR, xi_setW, xr_setI, xr_setW, xww_setI, xww_setR, xi_setI, xr_setR, xww_setW, xE_new, xsz_new, xsl_new, hX.tx, hX.xp, hX.P.tag, hX.P.f0, hX.P.f1, hX.P.f2, hX.lt, hX.l0, hX.l1, hX.l5, hX.l2, hX.l7, hX.fat, hX.kat, hX.lat, hX.kao, txr, nr]) ?_
      refine xw_icmp_ne (pc := 60) 73 dX5_finds_60 rfl (fun hb60 => ?_) (fun hb60 => ?_)
      · refine xw_iinc (v := nI (i + 1)) (l' := [(2, _), (3, _), (0, _), (1, _)]) (pc := 73) dX5_finds_73 1 rfl (nI_add _ 1) (by decide) rfl ?_
        refine xw_goto (pc := 76) 17 dX5_finds_76 rfl ?_
        refine xw_pick (pc := 17) (l' := [(2, _), (0, _), (1, _)]) [0, 2, 3] rfl ?_
        first
        | (refine ih (i + 1) g (by omega) (by omega) (by omega) hX hO ?_
           rw [hst _ rfl (by omega), show isPa s i r = false from decide_eq_false hb60]
           rfl)
        | (refine ih (i + 1) g65 (by omega) (by omega) (by omega) hc65.1 (hO.tr hc65.2) ?_
           rw [hst _ rfl (by omega), hb68, Bool.and_false]
           rfl)
      · have hpa : s (23 + 20 * i + 5) = nI r := hb60
        refine xw_aload_n (pc := 63) dX5_finds_63 2 rfl ?_
        refine xw_aload_n (pc := 64) dX5_finds_64 0 rfl ?_
        refine xw_callF (pc := 65) (xr_V (as := [_]) ok_X5_holds rfl (by decide) q765 q766 q767 (by rw [hX.lt]; rfl) (by rw [hX.lt]; rfl) dX5_finds_65 rfl rfl (Nat.le_of_ble_eq_true rfl)) (hh i (by omega) hil2 g hX) ?_
        intro g65 hc65 hm65
        refine xw_if_eq (pc := 68) 73 dX5_finds_68 rfl (fun hb68 => ?_) (fun hb68 => ?_)
        · replace hb68 := bI_0.mp hb68
          refine xw_iinc (v := nI (i + 1)) (l' := [(2, _), (3, _), (0, _), (1, _)]) (pc := 73) dX5_finds_73 1 rfl (nI_add _ 1) (by decide) rfl ?_
          refine xw_goto (pc := 76) 17 dX5_finds_76 rfl ?_
          refine xw_pick (pc := 17) (l' := [(2, _), (0, _), (1, _)]) [0, 2, 3] rfl ?_
          first
          | (refine ih (i + 1) g (by omega) (by omega) (by omega) hX hO ?_
             rw [hst _ rfl (by omega), show isPa s i r = false from decide_eq_false hb60]
             rfl)
          | (refine ih (i + 1) g65 (by omega) (by omega) (by omega) hc65.1 (hO.tr hc65.2) ?_
             rw [hst _ rfl (by omega), hb68, Bool.and_false]
             rfl)
        · replace hb68 := bI_n0.mp hb68
          refine xw_iconst (v := nI 0) (pc := 71) dX5_finds_71 rfl ?_
          refine xw_iret (pc := 72) .boolean dX5_finds_72 rfl ?_ 
          refine ⟨congrArg (fun x => Sum.inl (some (Value.int x))) ?_, hc65.1, hO.tr hc65.2⟩
          rw [hfal (by omega) (decide_eq_true hpa) hb68]
          rfl
theorem x_finds {d r : Nat} {g : xG} {x lk fa ka la p n rr ww k : Nat} {Z : xAd} {s : Nat → Int32} {day feats wo : Int32} {H : Nat → Bool} (hX : xCs g x lk fa ka la p Z s n rr ww k day feats wo H) (hr : r < rr) (hh : ∀ i, r < i → i < rr → ∀ g, xCs g x lk fa ka la p Z s n rr ww k day feats wo H → XM M_X5_holds (d + 12) [.ref lk, .ref ((aR Z).getD i 0)] g (xVal (.int (bI (H i))) (fun g' => xCs g' x lk fa ka la p Z s n rr ww k day feats wo H ∧ xOnly ka g g'))) : XM M_X5_finds (d + 13) [.ref lk, .ref ((aR Z).getD r 0)] g (xVal (.int (bI (H r))) (fun g' => xCs g' x lk fa ka la p Z s n rr ww k day feats wo H ∧ xOnly ka g g')) := by
  have txr := xRu_x (hX.P.ru hr)
  have nr : xi g ((aR Z).getD r 0) 0 = nI r := (hX.P.ru hr).2.1
  refine xm_of (by decide +kernel) (Nat.le_of_ble_eq_true rfl) ?_
  show XW _ _ 0 [(0, _), (1, _)] [] _ _
  refine xw_aload_n (pc := 0) dX5_finds_0 0 rfl ?_
  refine xw_aload_n (pc := 1) dX5_finds_1 1 rfl ?_
  refine xw_callV (pc := 2) (xr_V (as := [_]) ok_X5_covers rfl (by decide) q773 q774 q775 (by rw [hX.lt]; rfl) (by rw [hX.lt]; rfl) dX5_finds_2 rfl rfl (Nat.le_of_ble_eq_true rfl)) (SP_X5_cov hX hr) ?_
  refine xw_if_ne (pc := 5) 10 dX5_finds_5 rfl (fun hb5 => ?_) (fun hb5 => ?_)
  · replace hb5 := bI_n0.mp hb5
    refine xw_aload_n (pc := 10) dX5_finds_10 1 rfl ?_
    refine xw_getNat (k := r) (pc := 11) fd_X5_68 dX5_finds_11 (by first | assumption | (simp [-List.getD_eq_getElem?_getD, xE_setI, xsz_setI, xsl_setI, xtag_setI, xown_setI, xlen_setI, xE_setR, xsz_setR, xsl_setR, xtag_setR, xown_setR, xlen_setR, xE_setW, xsz_setW, xsl_setW, xtag_setW, xown_setW, xlen_setW, xi_setR, xi_setW, xr_setI, xr_setW, xww_setI, xww_setR, xi_setI, xr_setR, xww_setW, xE_new, xsz_new, xsl_new, hX.tx, hX.xp, hX.P.tag, hX.P.f0, hX.P.f1, hX.P.f2, hX.lt, hX.l0, hX.l1, hX.l5, hX.l2, hX.l7, hX.fat, hX.kat, hX.lat, hX.kao, txr, nr, xsub]; done) | (simp [-List.getD_eq_getElem?_getD, xE_setI, xsz_setI, xsl_setI, xtag_setI, xown_setI, xlen_setI, xE_setR, xsz_setR, xsl_setR, xtag_setR, xown_setR, xlen_setR, xE_setW, xsz_setW, xsl_setW, xtag_setW, xown_setW, xlen_setW, xi_setR, xi_setW, xr_setI, xr_setW, xww_setI, xww_setR, xi_setI, xr_setR, xww_setW, xE_new, xsz_new, xsl_new, hX.tx, hX.xp, hX.P.tag, hX.P.f0, hX.P.f1, hX.P.f2, hX.lt, hX.l0, hX.l1, hX.l5, hX.l2, hX.l7, hX.fat, hX.kat, hX.lat, hX.kao, txr, nr] <;> rfl)) (by simp [-List.getD_eq_getElem?_getD, xE_setI, xsz_setI, xsl_setI, xtag_setI, xown_setI, xlen_setI, xE_setR, xsz_setR, xsl_setR, xtag_setR, xown_setR, xlen_setR, xE_setW, xsz_setW, xsl_setW, xtag_setW, xown_setW, xlen_setW, xi_setR, xi_setW, xr_setI, xr_setW, xww_setI, xww_setR, xi_setI, xr_setR, xww_setW, xE_new, xsz_new, xsl_new, hX.tx, hX.xp, hX.P.tag, hX.P.f0, hX.P.f1, hX.P.f2, hX.lt, hX.l0, hX.l1, hX.l5, hX.l2, hX.l7, hX.fat, hX.kat, hX.lat, hX.kao, txr, nr]) ?_
    refine xw_iconst (v := nI 1) (pc := 14) dX5_finds_14 rfl ?_
    refine xn_iadd (pc := 15) dX5_finds_15 ?_
    refine xw_istore_n (l' := [(2, _), (0, _), (1, _)]) (pc := 16) dX5_finds_16 rfl (by decide) rfl ?_
    exact lp_X5_finds (d := d) hr hb5 hh (rr + 1) (r + 1) g (by omega) (by omega) (by omega) hX xOnly.rf (by rw [show r + 1 - r - 1 = 0 from by omega]; rfl)
  · replace hb5 := bI_0.mp hb5
    refine xw_iconst (v := nI 0) (pc := 8) dX5_finds_8 rfl ?_
    refine xw_iret (pc := 9) .boolean dX5_finds_9 rfl ?_ 
    refine ⟨congrArg (fun x => Sum.inl (some (Value.int x))) ?_, hX, xOnly.rf⟩
    rw [hX.hH, hld_eq hr, hb5]
    rfl
theorem x_holds {d r : Nat} {g : xG} {x lk fa ka la p n rr ww k : Nat} {Z : xAd} {s : Nat → Int32} {day feats wo : Int32} {H : Nat → Bool} (hX : xCs g x lk fa ka la p Z s n rr ww k day feats wo H) (hr : r < rr) (hf : XM M_X5_finds d [.ref lk, .ref ((aR Z).getD r 0)] g (xVal (.int (bI (H r))) (fun g' => xCs g' x lk fa ka la p Z s n rr ww k day feats wo H ∧ xOnly ka g g'))) : XM M_X5_holds (d + 1) [.ref lk, .ref ((aR Z).getD r 0)] g (xVal (.int (bI (H r))) (fun g' => xCs g' x lk fa ka la p Z s n rr ww k day feats wo H ∧ xOnly ka g g')) := by
  have r16 := hX.P.wf.r16
  have txr := xRu_x (hX.P.ru hr)
  have hlb : (aR Z).getD r 0 < xsz g := xlt (by have := (hX.P.ru hr).1; omega)
  have nr : xi g ((aR Z).getD r 0) 0 = nI r := (hX.P.ru hr).2.1
  have hM := hX.M hr
  refine xm_of (by decide +kernel) (Nat.le_of_ble_eq_true rfl) ?_
  show XW _ _ 0 [(0, _), (1, _)] [] _ _
  refine xw_aload_n (pc := 0) dX5_holds_0 0 rfl ?_
  refine xw_getS (b := ka) (pc := 1) fd_X5_19 dX5_holds_1 (by first | assumption | (simp [-List.getD_eq_getElem?_getD, xE_setI, xsz_setI, xsl_setI, xtag_setI, xown_setI, xlen_setI, xE_setR, xsz_setR, xsl_setR, xtag_setR, xown_setR, xlen_setR, xE_setW, xsz_setW, xsl_setW, xtag_setW, xown_setW, xlen_setW, xi_setR, xi_setW, xr_setI, xr_setW, xww_setI, xww_setR, xi_setI, xr_setR, xww_setW, xE_new, xsz_new, xsl_new, hX.tx, hX.xp, hX.P.tag, hX.P.f0, hX.P.f1, hX.P.f2, hX.lt, hX.l0, hX.l1, hX.l5, hX.l2, hX.l7, hX.fat, hX.kat, hX.lat, hX.kao, txr, nr, xsub]; done) | (simp [-List.getD_eq_getElem?_getD, xE_setI, xsz_setI, xsl_setI, xtag_setI, xown_setI, xlen_setI, xE_setR, xsz_setR, xsl_setR, xtag_setR, xown_setR, xlen_setR, xE_setW, xsz_setW, xsl_setW, xtag_setW, xown_setW, xlen_setW, xi_setR, xi_setW, xr_setI, xr_setW, xww_setI, xww_setR, xi_setI, xr_setR, xww_setW, xE_new, xsz_new, xsl_new, hX.tx, hX.xp, hX.P.tag, hX.P.f0, hX.P.f1, hX.P.f2, hX.lt, hX.l0, hX.l1, hX.l5, hX.l2, hX.l7, hX.fat, hX.kat, hX.lat, hX.kao, txr, nr] <;> rfl)) (by simp [-List.getD_eq_getElem?_getD, xE_setI, xsz_setI, xsl_setI, xtag_setI, xown_setI, xlen_setI, xE_setR, xsz_setR, xsl_setR, xtag_setR, xown_setR, xlen_setR, xE_setW, xsz_setW, xsl_setW, xtag_setW, xown_setW, xlen_setW, xi_setR, xi_setW, xr_setI, xr_setW, xww_setI, xww_setR, xi_setI, xr_setR, xww_setW, xE_new, xsz_new, xsl_new, hX.tx, hX.xp, hX.P.tag, hX.P.f0, hX.P.f1, hX.P.f2, hX.lt, hX.l0, hX.l1, hX.l5, hX.l2, hX.l7, hX.fat, hX.kat, hX.lat, hX.kao, txr, nr]) ?_
  refine xw_aload_n (pc := 4) dX5_holds_4 1 rfl ?_
  refine xw_getNat (k := r) (pc := 5) fd_X5_68 dX5_holds_5 (by first | assumption | (simp [-List.getD_eq_getElem?_getD, xE_setI, xsz_setI, xsl_setI, xtag_setI, xown_setI, xlen_setI, xE_setR, xsz_setR, xsl_setR, xtag_setR, xown_setR, xlen_setR, xE_setW, xsz_setW, xsl_setW, xtag_setW, xown_setW, xlen_setW, xi_setR, xi_setW, xr_setI, xr_setW, xww_setI, xww_setR, xi_setI, xr_setR, xww_setW, xE_new, xsz_new, xsl_new, hX.tx, hX.xp, hX.P.tag, hX.P.f0, hX.P.f1, hX.P.f2, hX.lt, hX.l0, hX.l1, hX.l5, hX.l2, hX.l7, hX.fat, hX.kat, hX.lat, hX.kao, txr, nr, xsub]; done) | (simp [-List.getD_eq_getElem?_getD, xE_setI, xsz_setI, xsl_setI, xtag_setI, xown_setI, xlen_setI, xE_setR, xsz_setR, xsl_setR, xtag_setR, xown_setR, xlen_setR, xE_setW, xsz_setW, xsl_setW, xtag_setW, xown_setW, xlen_setW, xi_setR, xi_setW, xr_setI, xr_setW, xww_setI, xww_setR, xi_setI, xr_setR, xww_setW, xE_new, xsz_new, xsl_new, hX.tx, hX.xp, hX.P.tag, hX.P.f0, hX.P.f1, hX.P.f2, hX.lt, hX.l0, hX.l1, hX.l5, hX.l2, hX.l7, hX.fat, hX.kat, hX.lat, hX.kao, txr, nr] <;> rfl)) (by simp [-List.getD_eq_getElem?_getD, xE_setI, xsz_setI, xsl_setI, xtag_setI, xown_setI, xlen_setI, xE_setR, xsz_setR, xsl_setR, xtag_setR, xown_setR, xlen_setR, xE_setW, xsz_setW, xsl_setW, xtag_setW, xown_setW, xlen_setW, xi_setR, xi_setW, xr_setI, xr_setW, xww_setI, xww_setR, xi_setI, xr_setR, xww_setW, xE_new, xsz_new, xsl_new, hX.tx, hX.xp, hX.P.tag, hX.P.f0, hX.P.f1, hX.P.f2, hX.lt, hX.l0, hX.l1, hX.l5, hX.l2, hX.l7, hX.fat, hX.kat, hX.lat, hX.kao, txr, nr]) ?_
  refine xw_iald (k := r) (pc := 8) dX5_holds_8 (by simp [-List.getD_eq_getElem?_getD, xE_setI, xsz_setI, xsl_setI, xtag_setI, xown_setI, xlen_setI, xE_setR, xsz_setR, xsl_setR, xtag_setR, xown_setR, xlen_setR, xE_setW, xsz_setW, xsl_setW, xtag_setW, xown_setW, xlen_setW, xi_setR, xi_setW, xr_setI, xr_setW, xww_setI, xww_setR, xi_setI, xr_setR, xww_setW, xE_new, xsz_new, xsl_new, hX.tx, hX.xp, hX.P.tag, hX.P.f0, hX.P.f1, hX.P.f2, hX.lt, hX.l0, hX.l1, hX.l5, hX.l2, hX.l7, hX.fat, hX.kat, hX.lat, hX.kao, txr, nr]) rfl (by rw [hX.kal]; omega) ?_
  refine xw_if_ne (pc := 9) 34 dX5_holds_9 rfl (fun hb9 => ?_) (fun hb9 => ?_)
  · skip
    refine xw_aload_n (pc := 34) dX5_holds_34 0 rfl ?_
    refine xw_getS (b := ka) (pc := 35) fd_X5_19 dX5_holds_35 (by first | assumption | (simp [-List.getD_eq_getElem?_getD, xE_setI, xsz_setI, xsl_setI, xtag_setI, xown_setI, xlen_setI, xE_setR, xsz_setR, xsl_setR, xtag_setR, xown_setR, xlen_setR, xE_setW, xsz_setW, xsl_setW, xtag_setW, xown_setW, xlen_setW, xi_setR, xi_setW, xr_setI, xr_setW, xww_setI, xww_setR, xi_setI, xr_setR, xww_setW, xE_new, xsz_new, xsl_new, hX.tx, hX.xp, hX.P.tag, hX.P.f0, hX.P.f1, hX.P.f2, hX.lt, hX.l0, hX.l1, hX.l5, hX.l2, hX.l7, hX.fat, hX.kat, hX.lat, hX.kao, txr, nr, xsub]; done) | (simp [-List.getD_eq_getElem?_getD, xE_setI, xsz_setI, xsl_setI, xtag_setI, xown_setI, xlen_setI, xE_setR, xsz_setR, xsl_setR, xtag_setR, xown_setR, xlen_setR, xE_setW, xsz_setW, xsl_setW, xtag_setW, xown_setW, xlen_setW, xi_setR, xi_setW, xr_setI, xr_setW, xww_setI, xww_setR, xi_setI, xr_setR, xww_setW, xE_new, xsz_new, xsl_new, hX.tx, hX.xp, hX.P.tag, hX.P.f0, hX.P.f1, hX.P.f2, hX.lt, hX.l0, hX.l1, hX.l5, hX.l2, hX.l7, hX.fat, hX.kat, hX.lat, hX.kao, txr, nr] <;> rfl)) (by simp [-List.getD_eq_getElem?_getD, xE_setI, xsz_setI, xsl_setI, xtag_setI, xown_setI, xlen_setI, xE_setR, xsz_setR, xsl_setR, xtag_setR, xown_setR, xlen_setR, xE_setW, xsz_setW, xsl_setW, xtag_setW, xown_setW, xlen_setW, xi_setR, xi_setW, xr_setI, xr_setW, xww_setI, xww_setR, xi_setI, xr_setR, xww_setW, xE_new, xsz_new, xsl_new, hX.tx, hX.xp, hX.P.tag, hX.P.f0, hX.P.f1, hX.P.f2, hX.lt, hX.l0, hX.l1, hX.l5, hX.l2, hX.l7, hX.fat, hX.kat, hX.lat, hX.kao, txr, nr]) ?_
    refine xw_aload_n (pc := 38) dX5_holds_38 1 rfl ?_
    refine xw_getNat (k := r) (pc := 39) fd_X5_68 dX5_holds_39 (by first | assumption | (simp [-List.getD_eq_getElem?_getD, xE_setI, xsz_setI, xsl_setI, xtag_setI, xown_setI, xlen_setI, xE_setR, xsz_setR, xsl_setR, xtag_setR, xown_setR, xlen_setR, xE_setW, xsz_setW, xsl_setW, xtag_setW, xown_setW, xlen_setW, xi_setR, xi_setW, xr_setI, xr_setW, xww_setI, xww_setR, xi_setI, xr_setR, xww_setW, xE_new, xsz_new, xsl_new, hX.tx, hX.xp, hX.P.tag, hX.P.f0, hX.P.f1, hX.P.f2, hX.lt, hX.l0, hX.l1, hX.l5, hX.l2, hX.l7, hX.fat, hX.kat, hX.lat, hX.kao, txr, nr, xsub]; done) | (simp [-List.getD_eq_getElem?_getD, xE_setI, xsz_setI, xsl_setI, xtag_setI, xown_setI, xlen_setI, xE_setR, xsz_setR, xsl_setR, xtag_setR, xown_setR, xlen_setR, xE_setW, xsz_setW, xsl_setW, xtag_setW, xown_setW, xlen_setW, xi_setR, xi_setW, xr_setI, xr_setW, xww_setI, xww_setR, xi_setI, xr_setR, xww_setW, xE_new, xsz_new, xsl_new, hX.tx, hX.xp, hX.P.tag, hX.P.f0, hX.P.f1, hX.P.f2, hX.lt, hX.l0, hX.l1, hX.l5, hX.l2, hX.l7, hX.fat, hX.kat, hX.lat, hX.kao, txr, nr] <;> rfl)) (by simp [-List.getD_eq_getElem?_getD, xE_setI, xsz_setI, xsl_setI, xtag_setI, xown_setI, xlen_setI, xE_setR, xsz_setR, xsl_setR, xtag_setR, xown_setR, xlen_setR, xE_setW, xsz_setW, xsl_setW, xtag_setW, xown_setW, xlen_setW, xi_setR, xi_setW, xr_setI, xr_setW, xww_setI, xww_setR, xi_setI, xr_setR, xww_setW, xE_new, xsz_new, xsl_new, hX.tx, hX.xp, hX.P.tag, hX.P.f0, hX.P.f1, hX.P.f2, hX.lt, hX.l0, hX.l1, hX.l5, hX.l2, hX.l7, hX.fat, hX.kat, hX.lat, hX.kao, txr, nr]) ?_
    refine xw_iald (k := r) (pc := 42) dX5_holds_42 (by simp [-List.getD_eq_getElem?_getD, xE_setI, xsz_setI, xsl_setI, xtag_setI, xown_setI, xlen_setI, xE_setR, xsz_setR, xsl_setR, xtag_setR, xown_setR, xlen_setR, xE_setW, xsz_setW, xsl_setW, xtag_setW, xown_setW, xlen_setW, xi_setR, xi_setW, xr_setI, xr_setW, xww_setI, xww_setR, xi_setI, xr_setR, xww_setW, xE_new, xsz_new, xsl_new, hX.tx, hX.xp, hX.P.tag, hX.P.f0, hX.P.f1, hX.P.f2, hX.lt, hX.l0, hX.l1, hX.l5, hX.l2, hX.l7, hX.fat, hX.kat, hX.lat, hX.kao, txr, nr]) rfl (by first | (rw [hX.kal]; omega) | (rw [xlen_setI, hX22.kal]; omega)) ?_
    refine xw_iconst (v := nI 1) (pc := 43) dX5_holds_43 rfl ?_
    refine xw_icmp_ne (pc := 44) 51 dX5_holds_44 rfl (fun hb44 => ?_) (fun hb44 => ?_)
    · refine xw_iconst (v := nI 0) (pc := 51) dX5_holds_51 rfl ?_
      refine xw_iret (pc := 52) .boolean dX5_holds_52 rfl ?_ 
      first
      | (refine ⟨congrArg (fun x => Sum.inl (some (Value.int x))) ?_, hX, xOnly.rf⟩
         rcases hM with q | q | q
         · exact absurd q hb9
         · first | (rw [q.2]; rfl) | exact absurd q.1 hb44
         · first | (rw [q.2]; rfl) | (rw [q.1] at hb44; exact absurd hb44 (by decide)))
      | (refine ⟨congrArg (fun x => Sum.inl (some (Value.int x))) ?_, hN, hc22.2.si⟩
         rw [xi_setIS hk0] at hb44
         first | (rw [hb25]; rfl) | exact absurd rfl hb44 | exact absurd hb44 (by decide))
    · refine xw_iconst (v := nI 1) (pc := 47) dX5_holds_47 rfl ?_
      refine xw_goto (pc := 48) 52 dX5_holds_48 rfl ?_
      refine xw_iret (pc := 52) .boolean dX5_holds_52 rfl ?_ 
      first
      | (refine ⟨congrArg (fun x => Sum.inl (some (Value.int x))) ?_, hX, xOnly.rf⟩
         rcases hM with q | q | q
         · exact absurd q hb9
         · first | (rw [q.2]; rfl) | exact absurd q.1 hb44
         · first | (rw [q.2]; rfl) | (rw [q.1] at hb44; exact absurd hb44 (by decide)))
      | (refine ⟨congrArg (fun x => Sum.inl (some (Value.int x))) ?_, hN, hc22.2.si⟩
         rw [xi_setIS hk0] at hb44
         first | (rw [hb25]; rfl) | exact absurd rfl hb44 | exact absurd hb44 (by decide))
  · refine xw_aload_n (pc := 12) dX5_holds_12 0 rfl ?_
    refine xw_getS (b := ka) (pc := 13) fd_X5_19 dX5_holds_13 (by first | assumption | (simp [-List.getD_eq_getElem?_getD, xE_setI, xsz_setI, xsl_setI, xtag_setI, xown_setI, xlen_setI, xE_setR, xsz_setR, xsl_setR, xtag_setR, xown_setR, xlen_setR, xE_setW, xsz_setW, xsl_setW, xtag_setW, xown_setW, xlen_setW, xi_setR, xi_setW, xr_setI, xr_setW, xww_setI, xww_setR, xi_setI, xr_setR, xww_setW, xE_new, xsz_new, xsl_new, hX.tx, hX.xp, hX.P.tag, hX.P.f0, hX.P.f1, hX.P.f2, hX.lt, hX.l0, hX.l1, hX.l5, hX.l2, hX.l7, hX.fat, hX.kat, hX.lat, hX.kao, txr, nr, xsub]; done) | (simp [-List.getD_eq_getElem?_getD, xE_setI, xsz_setI, xsl_setI, xtag_setI, xown_setI, xlen_setI, xE_setR, xsz_setR, xsl_setR, xtag_setR, xown_setR, xlen_setR, xE_setW, xsz_setW, xsl_setW, xtag_setW, xown_setW, xlen_setW, xi_setR, xi_setW, xr_setI, xr_setW, xww_setI, xww_setR, xi_setI, xr_setR, xww_setW, xE_new, xsz_new, xsl_new, hX.tx, hX.xp, hX.P.tag, hX.P.f0, hX.P.f1, hX.P.f2, hX.lt, hX.l0, hX.l1, hX.l5, hX.l2, hX.l7, hX.fat, hX.kat, hX.lat, hX.kao, txr, nr] <;> rfl)) (by simp [-List.getD_eq_getElem?_getD, xE_setI, xsz_setI, xsl_setI, xtag_setI, xown_setI, xlen_setI, xE_setR, xsz_setR, xsl_setR, xtag_setR, xown_setR, xlen_setR, xE_setW, xsz_setW, xsl_setW, xtag_setW, xown_setW, xlen_setW, xi_setR, xi_setW, xr_setI, xr_setW, xww_setI, xww_setR, xi_setI, xr_setR, xww_setW, xE_new, xsz_new, xsl_new, hX.tx, hX.xp, hX.P.tag, hX.P.f0, hX.P.f1, hX.P.f2, hX.lt, hX.l0, hX.l1, hX.l5, hX.l2, hX.l7, hX.fat, hX.kat, hX.lat, hX.kao, txr, nr]) ?_
    refine xw_aload_n (pc := 16) dX5_holds_16 1 rfl ?_
    refine xw_getNat (k := r) (pc := 17) fd_X5_68 dX5_holds_17 (by first | assumption | (simp [-List.getD_eq_getElem?_getD, xE_setI, xsz_setI, xsl_setI, xtag_setI, xown_setI, xlen_setI, xE_setR, xsz_setR, xsl_setR, xtag_setR, xown_setR, xlen_setR, xE_setW, xsz_setW, xsl_setW, xtag_setW, xown_setW, xlen_setW, xi_setR, xi_setW, xr_setI, xr_setW, xww_setI, xww_setR, xi_setI, xr_setR, xww_setW, xE_new, xsz_new, xsl_new, hX.tx, hX.xp, hX.P.tag, hX.P.f0, hX.P.f1, hX.P.f2, hX.lt, hX.l0, hX.l1, hX.l5, hX.l2, hX.l7, hX.fat, hX.kat, hX.lat, hX.kao, txr, nr, xsub]; done) | (simp [-List.getD_eq_getElem?_getD, xE_setI, xsz_setI, xsl_setI, xtag_setI, xown_setI, xlen_setI, xE_setR, xsz_setR, xsl_setR, xtag_setR, xown_setR, xlen_setR, xE_setW, xsz_setW, xsl_setW, xtag_setW, xown_setW, xlen_setW, xi_setR, xi_setW, xr_setI, xr_setW, xww_setI, xww_setR, xi_setI, xr_setR, xww_setW, xE_new, xsz_new, xsl_new, hX.tx, hX.xp, hX.P.tag, hX.P.f0, hX.P.f1, hX.P.f2, hX.lt, hX.l0, hX.l1, hX.l5, hX.l2, hX.l7, hX.fat, hX.kat, hX.lat, hX.kao, txr, nr] <;> rfl)) (by simp [-List.getD_eq_getElem?_getD, xE_setI, xsz_setI, xsl_setI, xtag_setI, xown_setI, xlen_setI, xE_setR, xsz_setR, xsl_setR, xtag_setR, xown_setR, xlen_setR, xE_setW, xsz_setW, xsl_setW, xtag_setW, xown_setW, xlen_setW, xi_setR, xi_setW, xr_setI, xr_setW, xww_setI, xww_setR, xi_setI, xr_setR, xww_setW, xE_new, xsz_new, xsl_new, hX.tx, hX.xp, hX.P.tag, hX.P.f0, hX.P.f1, hX.P.f2, hX.lt, hX.l0, hX.l1, hX.l5, hX.l2, hX.l7, hX.fat, hX.kat, hX.lat, hX.kao, txr, nr]) ?_
    refine xw_aload_n (pc := 20) dX5_holds_20 0 rfl ?_
    refine xw_aload_n (pc := 21) dX5_holds_21 1 rfl ?_
    refine xw_callF (pc := 22) (xr_V (as := [_]) ok_X5_finds rfl (by decide) q769 q771 qs8 (by rw [hX.lt]; rfl) (by rw [hX.lt]; rfl) dX5_holds_22 rfl rfl (Nat.le_of_ble_eq_true rfl)) (hf) ?_
    intro g22 hc22 hm22
    have hX22 := hc22.1
    have hk0 : xtag g22 ka ≠ 0 := by rw [hX22.kat]; decide
    have txr2 := xRu_x (hX22.P.ru hr)
    have nr2 : xi g22 ((aR Z).getD r 0) 0 = nI r := (hX22.P.ru hr).2.1
    have hne2 : (aR Z).getD r 0 ≠ ka := fun e => by have h1 := (hX22.P.ru hr).1; rw [e, hX22.kat] at h1; omega
    refine xw_if_eq (pc := 25) 32 dX5_holds_25 rfl (fun hb25 => ?_) (fun hb25 => ?_)
    · replace hb25 := bI_0.mp hb25
      refine xw_iconst (v := nI 2) (pc := 32) dX5_holds_32 rfl ?_
      have hN : xCs (xsetI g22 ka r (nI 2)) x lk fa ka la p Z s n rr ww k day feats wo H := hX22.only xOnly.rf.si (fun r' hr' => by
        by_cases e : r' = r
        · subst e
          rw [xi_setIS hk0]
          exact Or.inr (Or.inr ⟨rfl, hb25⟩)
        · rw [xi_setIK e]
          exact hX22.M hr')
      refine xw_iast (k := r) (pc := 33) dX5_holds_33 (by simp [-List.getD_eq_getElem?_getD, xE_setI, xsz_setI, xsl_setI, xtag_setI, xown_setI, xlen_setI, xE_setR, xsz_setR, xsl_setR, xtag_setR, xown_setR, xlen_setR, xE_setW, xsz_setW, xsl_setW, xtag_setW, xown_setW, xlen_setW, xi_setR, xi_setW, xr_setI, xr_setW, xww_setI, xww_setR, xi_setI, xr_setR, xww_setW, xE_new, xsz_new, xsl_new, hX.tx, hX.xp, hX.P.tag, hX.P.f0, hX.P.f1, hX.P.f2, hX.lt, hX.l0, hX.l1, hX.l5, hX.l2, hX.l7, hX.fat, hX.kat, hX.lat, hX.kao, txr, nr, hX22.tx, hX22.xp, hX22.P.tag, hX22.P.f0, hX22.P.f1, hX22.P.f2, hX22.lt, hX22.l0, hX22.l1, hX22.l5, hX22.l2, hX22.l7, hX22.fat, hX22.kat, hX22.lat, hX22.kao, txr2, nr2, hk0, hne2]) (by first | assumption | (simp [-List.getD_eq_getElem?_getD, xE_setI, xsz_setI, xsl_setI, xtag_setI, xown_setI, xlen_setI, xE_setR, xsz_setR, xsl_setR, xtag_setR, xown_setR, xlen_setR, xE_setW, xsz_setW, xsl_setW, xtag_setW, xown_setW, xlen_setW, xi_setR, xi_setW, xr_setI, xr_setW, xww_setI, xww_setR, xi_setI, xr_setR, xww_setW, xE_new, xsz_new, xsl_new, hX.tx, hX.xp, hX.P.tag, hX.P.f0, hX.P.f1, hX.P.f2, hX.lt, hX.l0, hX.l1, hX.l5, hX.l2, hX.l7, hX.fat, hX.kat, hX.lat, hX.kao, txr, nr, hX22.tx, hX22.xp, hX22.P.tag, hX22.P.f0, hX22.P.f1, hX22.P.f2, hX22.lt, hX22.l0, hX22.l1, hX22.l5, hX22.l2, hX22.l7, hX22.fat, hX22.kat, hX22.lat, hX22.kao, txr2, nr2, hk0, hne2]; done) | (simp [-List.getD_eq_getElem?_getD, xE_setI, xsz_setI, xsl_setI, xtag_setI, xown_setI, xlen_setI, xE_setR, xsz_setR, xsl_setR, xtag_setR, xown_setR, xlen_setR, xE_setW, xsz_setW, xsl_setW, xtag_setW, xown_setW, xlen_setW, xi_setR, xi_setW, xr_setI, xr_setW, xww_setI, xww_setR, xi_setI, xr_setR, xww_setW, xE_new, xsz_new, xsl_new, hX.tx, hX.xp, hX.P.tag, hX.P.f0, hX.P.f1, hX.P.f2, hX.lt, hX.l0, hX.l1, hX.l5, hX.l2, hX.l7, hX.fat, hX.kat, hX.lat, hX.kao, txr, nr, hX22.tx, hX22.xp, hX22.P.tag, hX22.P.f0, hX22.P.f1, hX22.P.f2, hX22.lt, hX22.l0, hX22.l1, hX22.l5, hX22.l2, hX22.l7, hX22.fat, hX22.kat, hX22.lat, hX22.kao, txr2, nr2, hk0, hne2]; assumption)) rfl (by rw [hX22.kal]; omega) ?_
      skip
      refine xw_aload_n (pc := 34) dX5_holds_34 0 rfl ?_
      refine xw_getS (b := ka) (pc := 35) fd_X5_19 dX5_holds_35 (by first | assumption | (simp [-List.getD_eq_getElem?_getD, xE_setI, xsz_setI, xsl_setI, xtag_setI, xown_setI, xlen_setI, xE_setR, xsz_setR, xsl_setR, xtag_setR, xown_setR, xlen_setR, xE_setW, xsz_setW, xsl_setW, xtag_setW, xown_setW, xlen_setW, xi_setR, xi_setW, xr_setI, xr_setW, xww_setI, xww_setR, xi_setI, xr_setR, xww_setW, xE_new, xsz_new, xsl_new, hX.tx, hX.xp, hX.P.tag, hX.P.f0, hX.P.f1, hX.P.f2, hX.lt, hX.l0, hX.l1, hX.l5, hX.l2, hX.l7, hX.fat, hX.kat, hX.lat, hX.kao, txr, nr, hX22.tx, hX22.xp, hX22.P.tag, hX22.P.f0, hX22.P.f1, hX22.P.f2, hX22.lt, hX22.l0, hX22.l1, hX22.l5, hX22.l2, hX22.l7, hX22.fat, hX22.kat, hX22.lat, hX22.kao, txr2, nr2, hk0, hne2, xsub]; done) | (simp [-List.getD_eq_getElem?_getD, xE_setI, xsz_setI, xsl_setI, xtag_setI, xown_setI, xlen_setI, xE_setR, xsz_setR, xsl_setR, xtag_setR, xown_setR, xlen_setR, xE_setW, xsz_setW, xsl_setW, xtag_setW, xown_setW, xlen_setW, xi_setR, xi_setW, xr_setI, xr_setW, xww_setI, xww_setR, xi_setI, xr_setR, xww_setW, xE_new, xsz_new, xsl_new, hX.tx, hX.xp, hX.P.tag, hX.P.f0, hX.P.f1, hX.P.f2, hX.lt, hX.l0, hX.l1, hX.l5, hX.l2, hX.l7, hX.fat, hX.kat, hX.lat, hX.kao, txr, nr, hX22.tx, hX22.xp, hX22.P.tag, hX22.P.f0, hX22.P.f1, hX22.P.f2, hX22.lt, hX22.l0, hX22.l1, hX22.l5, hX22.l2, hX22.l7, hX22.fat, hX22.kat, hX22.lat, hX22.kao, txr2, nr2, hk0, hne2] <;> rfl)) (by simp [-List.getD_eq_getElem?_getD, xE_setI, xsz_setI, xsl_setI, xtag_setI, xown_setI, xlen_setI, xE_setR, xsz_setR, xsl_setR, xtag_setR, xown_setR, xlen_setR, xE_setW, xsz_setW, xsl_setW, xtag_setW, xown_setW, xlen_setW, xi_setR, xi_setW, xr_setI, xr_setW, xww_setI, xww_setR, xi_setI, xr_setR, xww_setW, xE_new, xsz_new, xsl_new, hX.tx, hX.xp, hX.P.tag, hX.P.f0, hX.P.f1, hX.P.f2, hX.lt, hX.l0, hX.l1, hX.l5, hX.l2, hX.l7, hX.fat, hX.kat, hX.lat, hX.kao, txr, nr, hX22.tx, hX22.xp, hX22.P.tag, hX22.P.f0, hX22.P.f1, hX22.P.f2, hX22.lt, hX22.l0, hX22.l1, hX22.l5, hX22.l2, hX22.l7, hX22.fat, hX22.kat, hX22.lat, hX22.kao, txr2, nr2, hk0, hne2]) ?_
      refine xw_aload_n (pc := 38) dX5_holds_38 1 rfl ?_
      refine xw_getNat (k := r) (pc := 39) fd_X5_68 dX5_holds_39 (by first | assumption | (simp [-List.getD_eq_getElem?_getD, xE_setI, xsz_setI, xsl_setI, xtag_setI, xown_setI, xlen_setI, xE_setR, xsz_setR, xsl_setR, xtag_setR, xown_setR, xlen_setR, xE_setW, xsz_setW, xsl_setW, xtag_setW, xown_setW, xlen_setW, xi_setR, xi_setW, xr_setI, xr_setW, xww_setI, xww_setR, xi_setI, xr_setR, xww_setW, xE_new, xsz_new, xsl_new, hX.tx, hX.xp, hX.P.tag, hX.P.f0, hX.P.f1, hX.P.f2, hX.lt, hX.l0, hX.l1, hX.l5, hX.l2, hX.l7, hX.fat, hX.kat, hX.lat, hX.kao, txr, nr, hX22.tx, hX22.xp, hX22.P.tag, hX22.P.f0, hX22.P.f1, hX22.P.f2, hX22.lt, hX22.l0, hX22.l1, hX22.l5, hX22.l2, hX22.l7, hX22.fat, hX22.kat, hX22.lat, hX22.kao, txr2, nr2, hk0, hne2, xsub]; done) | (simp [-List.getD_eq_getElem?_getD, xE_setI, xsz_setI, xsl_setI, xtag_setI, xown_setI, xlen_setI, xE_setR, xsz_setR, xsl_setR, xtag_setR, xown_setR, xlen_setR, xE_setW, xsz_setW, xsl_setW, xtag_setW, xown_setW, xlen_setW, xi_setR, xi_setW, xr_setI, xr_setW, xww_setI, xww_setR, xi_setI, xr_setR, xww_setW, xE_new, xsz_new, xsl_new, hX.tx, hX.xp, hX.P.tag, hX.P.f0, hX.P.f1, hX.P.f2, hX.lt, hX.l0, hX.l1, hX.l5, hX.l2, hX.l7, hX.fat, hX.kat, hX.lat, hX.kao, txr, nr, hX22.tx, hX22.xp, hX22.P.tag, hX22.P.f0, hX22.P.f1, hX22.P.f2, hX22.lt, hX22.l0, hX22.l1, hX22.l5, hX22.l2, hX22.l7, hX22.fat, hX22.kat, hX22.lat, hX22.kao, txr2, nr2, hk0, hne2] <;> rfl)) (by simp [-List.getD_eq_getElem?_getD, xE_setI, xsz_setI, xsl_setI, xtag_setI, xown_setI, xlen_setI, xE_setR, xsz_setR, xsl_setR, xtag_setR, xown_setR, xlen_setR, xE_setW, xsz_setW, xsl_setW, xtag_setW, xown_setW, xlen_setW, xi_setR, xi_setW, xr_setI, xr_setW, xww_setI, xww_setR, xi_setI, xr_setR, xww_setW, xE_new, xsz_new, xsl_new, hX.tx, hX.xp, hX.P.tag, hX.P.f0, hX.P.f1, hX.P.f2, hX.lt, hX.l0, hX.l1, hX.l5, hX.l2, hX.l7, hX.fat, hX.kat, hX.lat, hX.kao, txr, nr, hX22.tx, hX22.xp, hX22.P.tag, hX22.P.f0, hX22.P.f1, hX22.P.f2, hX22.lt, hX22.l0, hX22.l1, hX22.l5, hX22.l2, hX22.l7, hX22.fat, hX22.kat, hX22.lat, hX22.kao, txr2, nr2, hk0, hne2]) ?_
      refine xw_iald (k := r) (pc := 42) dX5_holds_42 (by simp [-List.getD_eq_getElem?_getD, xE_setI, xsz_setI, xsl_setI, xtag_setI, xown_setI, xlen_setI, xE_setR, xsz_setR, xsl_setR, xtag_setR, xown_setR, xlen_setR, xE_setW, xsz_setW, xsl_setW, xtag_setW, xown_setW, xlen_setW, xi_setR, xi_setW, xr_setI, xr_setW, xww_setI, xww_setR, xi_setI, xr_setR, xww_setW, xE_new, xsz_new, xsl_new, hX.tx, hX.xp, hX.P.tag, hX.P.f0, hX.P.f1, hX.P.f2, hX.lt, hX.l0, hX.l1, hX.l5, hX.l2, hX.l7, hX.fat, hX.kat, hX.lat, hX.kao, txr, nr, hX22.tx, hX22.xp, hX22.P.tag, hX22.P.f0, hX22.P.f1, hX22.P.f2, hX22.lt, hX22.l0, hX22.l1, hX22.l5, hX22.l2, hX22.l7, hX22.fat, hX22.kat, hX22.lat, hX22.kao, txr2, nr2, hk0, hne2]) rfl (by first | (rw [hX.kal]; omega) | (rw [xlen_setI, hX22.kal]; omega)) ?_
      refine xw_iconst (v := nI 1) (pc := 43) dX5_holds_43 rfl ?_
      refine xw_icmp_ne (pc := 44) 51 dX5_holds_44 rfl (fun hb44 => ?_) (fun hb44 => ?_)
      · refine xw_iconst (v := nI 0) (pc := 51) dX5_holds_51 rfl ?_
        refine xw_iret (pc := 52) .boolean dX5_holds_52 rfl ?_ 
        first
        | (refine ⟨congrArg (fun x => Sum.inl (some (Value.int x))) ?_, hX, xOnly.rf⟩
           rcases hM with q | q | q
           · exact absurd q hb9
           · first | (rw [q.2]; rfl) | exact absurd q.1 hb44
           · first | (rw [q.2]; rfl) | (rw [q.1] at hb44; exact absurd hb44 (by decide)))
        | (refine ⟨congrArg (fun x => Sum.inl (some (Value.int x))) ?_, hN, hc22.2.si⟩
           rw [xi_setIS hk0] at hb44
           first | (rw [hb25]; rfl) | exact absurd rfl hb44 | exact absurd hb44 (by decide))
      · refine xw_iconst (v := nI 1) (pc := 47) dX5_holds_47 rfl ?_
        refine xw_goto (pc := 48) 52 dX5_holds_48 rfl ?_
        refine xw_iret (pc := 52) .boolean dX5_holds_52 rfl ?_ 
        first
        | (refine ⟨congrArg (fun x => Sum.inl (some (Value.int x))) ?_, hX, xOnly.rf⟩
           rcases hM with q | q | q
           · exact absurd q hb9
           · first | (rw [q.2]; rfl) | exact absurd q.1 hb44
           · first | (rw [q.2]; rfl) | (rw [q.1] at hb44; exact absurd hb44 (by decide)))
        | (refine ⟨congrArg (fun x => Sum.inl (some (Value.int x))) ?_, hN, hc22.2.si⟩
           rw [xi_setIS hk0] at hb44
           first | (rw [hb25]; rfl) | exact absurd rfl hb44 | exact absurd hb44 (by decide))
    · replace hb25 := bI_n0.mp hb25
      refine xw_iconst (v := nI 1) (pc := 28) dX5_holds_28 rfl ?_
      refine xw_goto (pc := 29) 33 dX5_holds_29 rfl ?_
      have hN : xCs (xsetI g22 ka r (nI 1)) x lk fa ka la p Z s n rr ww k day feats wo H := hX22.only xOnly.rf.si (fun r' hr' => by
        by_cases e : r' = r
        · subst e
          rw [xi_setIS hk0]
          exact Or.inr (Or.inl ⟨rfl, hb25⟩)
        · rw [xi_setIK e]
          exact hX22.M hr')
      refine xw_iast (k := r) (pc := 33) dX5_holds_33 (by simp [-List.getD_eq_getElem?_getD, xE_setI, xsz_setI, xsl_setI, xtag_setI, xown_setI, xlen_setI, xE_setR, xsz_setR, xsl_setR, xtag_setR, xown_setR, xlen_setR, xE_setW, xsz_setW, xsl_setW, xtag_setW, xown_setW, xlen_setW, xi_setR, xi_setW, xr_setI, xr_setW, xww_setI, xww_setR, xi_setI, xr_setR, xww_setW, xE_new, xsz_new, xsl_new, hX.tx, hX.xp, hX.P.tag, hX.P.f0, hX.P.f1, hX.P.f2, hX.lt, hX.l0, hX.l1, hX.l5, hX.l2, hX.l7, hX.fat, hX.kat, hX.lat, hX.kao, txr, nr, hX22.tx, hX22.xp, hX22.P.tag, hX22.P.f0, hX22.P.f1, hX22.P.f2, hX22.lt, hX22.l0, hX22.l1, hX22.l5, hX22.l2, hX22.l7, hX22.fat, hX22.kat, hX22.lat, hX22.kao, txr2, nr2, hk0, hne2]) (by first | assumption | (simp [-List.getD_eq_getElem?_getD, xE_setI, xsz_setI, xsl_setI, xtag_setI, xown_setI, xlen_setI, xE_setR, xsz_setR, xsl_setR, xtag_setR, xown_setR, xlen_setR, xE_setW, xsz_setW, xsl_setW, xtag_setW, xown_setW, xlen_setW, xi_setR, xi_setW, xr_setI, xr_setW, xww_setI, xww_setR, xi_setI, xr_setR, xww_setW, xE_new, xsz_new, xsl_new, hX.tx, hX.xp, hX.P.tag, hX.P.f0, hX.P.f1, hX.P.f2, hX.lt, hX.l0, hX.l1, hX.l5, hX.l2, hX.l7, hX.fat, hX.kat, hX.lat, hX.kao, txr, nr, hX22.tx, hX22.xp, hX22.P.tag, hX22.P.f0, hX22.P.f1, hX22.P.f2, hX22.lt, hX22.l0, hX22.l1, hX22.l5, hX22.l2, hX22.l7, hX22.fat, hX22.kat, hX22.lat, hX22.kao, txr2, nr2, hk0, hne2]; done) | (simp [-List.getD_eq_getElem?_getD, xE_setI, xsz_setI, xsl_setI, xtag_setI, xown_setI, xlen_setI, xE_setR, xsz_setR, xsl_setR, xtag_setR, xown_setR, xlen_setR, xE_setW, xsz_setW, xsl_setW, xtag_setW, xown_setW, xlen_setW, xi_setR, xi_setW, xr_setI, xr_setW, xww_setI, xww_setR, xi_setI, xr_setR, xww_setW, xE_new, xsz_new, xsl_new, hX.tx, hX.xp, hX.P.tag, hX.P.f0, hX.P.f1, hX.P.f2, hX.lt, hX.l0, hX.l1, hX.l5, hX.l2, hX.l7, hX.fat, hX.kat, hX.lat, hX.kao, txr, nr, hX22.tx, hX22.xp, hX22.P.tag, hX22.P.f0, hX22.P.f1, hX22.P.f2, hX22.lt, hX22.l0, hX22.l1, hX22.l5, hX22.l2, hX22.l7, hX22.fat, hX22.kat, hX22.lat, hX22.kao, txr2, nr2, hk0, hne2]; assumption)) rfl (by rw [hX22.kal]; omega) ?_
      skip
      refine xw_aload_n (pc := 34) dX5_holds_34 0 rfl ?_
      refine xw_getS (b := ka) (pc := 35) fd_X5_19 dX5_holds_35 (by first | assumption | (simp [-List.getD_eq_getElem?_getD, xE_setI, xsz_setI, xsl_setI, xtag_setI, xown_setI, xlen_setI, xE_setR, xsz_setR, xsl_setR, xtag_setR, xown_setR, xlen_setR, xE_setW, xsz_setW, xsl_setW, xtag_setW, xown_setW, xlen_setW, xi_setR, xi_setW, xr_setI, xr_setW, xww_setI, xww_setR, xi_setI, xr_setR, xww_setW, xE_new, xsz_new, xsl_new, hX.tx, hX.xp, hX.P.tag, hX.P.f0, hX.P.f1, hX.P.f2, hX.lt, hX.l0, hX.l1, hX.l5, hX.l2, hX.l7, hX.fat, hX.kat, hX.lat, hX.kao, txr, nr, hX22.tx, hX22.xp, hX22.P.tag, hX22.P.f0, hX22.P.f1, hX22.P.f2, hX22.lt, hX22.l0, hX22.l1, hX22.l5, hX22.l2, hX22.l7, hX22.fat, hX22.kat, hX22.lat, hX22.kao, txr2, nr2, hk0, hne2, xsub]; done) | (simp [-List.getD_eq_getElem?_getD, xE_setI, xsz_setI, xsl_setI, xtag_setI, xown_setI, xlen_setI, xE_setR, xsz_setR, xsl_setR, xtag_setR, xown_setR, xlen_setR, xE_setW, xsz_setW, xsl_setW, xtag_setW, xown_setW, xlen_setW, xi_setR, xi_setW, xr_setI, xr_setW, xww_setI, xww_setR, xi_setI, xr_setR, xww_setW, xE_new, xsz_new, xsl_new, hX.tx, hX.xp, hX.P.tag, hX.P.f0, hX.P.f1, hX.P.f2, hX.lt, hX.l0, hX.l1, hX.l5, hX.l2, hX.l7, hX.fat, hX.kat, hX.lat, hX.kao, txr, nr, hX22.tx, hX22.xp, hX22.P.tag, hX22.P.f0, hX22.P.f1, hX22.P.f2, hX22.lt, hX22.l0, hX22.l1, hX22.l5, hX22.l2, hX22.l7, hX22.fat, hX22.kat, hX22.lat, hX22.kao, txr2, nr2, hk0, hne2] <;> rfl)) (by simp [-List.getD_eq_getElem?_getD, xE_setI, xsz_setI, xsl_setI, xtag_setI, xown_setI, xlen_setI, xE_setR, xsz_setR, xsl_setR, xtag_setR, xown_setR, xlen_setR, xE_setW, xsz_setW, xsl_setW, xtag_setW, xown_setW, xlen_setW, xi_setR, xi_setW, xr_setI, xr_setW, xww_setI, xww_setR, xi_setI, xr_setR, xww_setW, xE_new, xsz_new, xsl_new, hX.tx, hX.xp, hX.P.tag, hX.P.f0, hX.P.f1, hX.P.f2, hX.lt, hX.l0, hX.l1, hX.l5, hX.l2, hX.l7, hX.fat, hX.kat, hX.lat, hX.kao, txr, nr, hX22.tx, hX22.xp, hX22.P.tag, hX22.P.f0, hX22.P.f1, hX22.P.f2, hX22.lt, hX22.l0, hX22.l1, hX22.l5, hX22.l2, hX22.l7, hX22.fat, hX22.kat, hX22.lat, hX22.kao, txr2, nr2, hk0, hne2]) ?_
      refine xw_aload_n (pc := 38) dX5_holds_38 1 rfl ?_
      refine xw_getNat (k := r) (pc := 39) fd_X5_68 dX5_holds_39 (by first | assumption | (simp [-List.getD_eq_getElem?_getD, xE_setI, xsz_setI, xsl_setI, xtag_setI, xown_setI, xlen_setI, xE_setR, xsz_setR, xsl_setR, xtag_setR, xown_setR, xlen_setR, xE_setW, xsz_setW, xsl_setW, xtag_setW, xown_setW, xlen_setW, xi_setR, xi_setW, xr_setI, xr_setW, xww_setI, xww_setR, xi_setI, xr_setR, xww_setW, xE_new, xsz_new, xsl_new, hX.tx, hX.xp, hX.P.tag, hX.P.f0, hX.P.f1, hX.P.f2, hX.lt, hX.l0, hX.l1, hX.l5, hX.l2, hX.l7, hX.fat, hX.kat, hX.lat, hX.kao, txr, nr, hX22.tx, hX22.xp, hX22.P.tag, hX22.P.f0, hX22.P.f1, hX22.P.f2, hX22.lt, hX22.l0, hX22.l1, hX22.l5, hX22.l2, hX22.l7, hX22.fat, hX22.kat, hX22.lat, hX22.kao, txr2, nr2, hk0, hne2, xsub]; done) | (simp [-List.getD_eq_getElem?_getD, xE_setI, xsz_setI, xsl_setI, xtag_setI, xown_setI, xlen_setI, xE_setR, xsz_setR, xsl_setR, xtag_setR, xown_setR, xlen_setR, xE_setW, xsz_setW, xsl_setW, xtag_setW, xown_setW, xlen_setW, xi_setR, xi_setW, xr_setI, xr_setW, xww_setI, xww_setR, xi_setI, xr_setR, xww_setW, xE_new, xsz_new, xsl_new, hX.tx, hX.xp, hX.P.tag, hX.P.f0, hX.P.f1, hX.P.f2, hX.lt, hX.l0, hX.l1, hX.l5, hX.l2, hX.l7, hX.fat, hX.kat, hX.lat, hX.kao, txr, nr, hX22.tx, hX22.xp, hX22.P.tag, hX22.P.f0, hX22.P.f1, hX22.P.f2, hX22.lt, hX22.l0, hX22.l1, hX22.l5, hX22.l2, hX22.l7, hX22.fat, hX22.kat, hX22.lat, hX22.kao, txr2, nr2, hk0, hne2] <;> rfl)) (by simp [-List.getD_eq_getElem?_getD, xE_setI, xsz_setI, xsl_setI, xtag_setI, xown_setI, xlen_setI, xE_setR, xsz_setR, xsl_setR, xtag_setR, xown_setR, xlen_setR, xE_setW, xsz_setW, xsl_setW, xtag_setW, xown_setW, xlen_setW, xi_setR, xi_setW, xr_setI, xr_setW, xww_setI, xww_setR, xi_setI, xr_setR, xww_setW, xE_new, xsz_new, xsl_new, hX.tx, hX.xp, hX.P.tag, hX.P.f0, hX.P.f1, hX.P.f2, hX.lt, hX.l0, hX.l1, hX.l5, hX.l2, hX.l7, hX.fat, hX.kat, hX.lat, hX.kao, txr, nr, hX22.tx, hX22.xp, hX22.P.tag, hX22.P.f0, hX22.P.f1, hX22.P.f2, hX22.lt, hX22.l0, hX22.l1, hX22.l5, hX22.l2, hX22.l7, hX22.fat, hX22.kat, hX22.lat, hX22.kao, txr2, nr2, hk0, hne2]) ?_
      refine xw_iald (k := r) (pc := 42) dX5_holds_42 (by simp [-List.getD_eq_getElem?_getD, xE_setI, xsz_setI, xsl_setI, xtag_setI, xown_setI, xlen_setI, xE_setR, xsz_setR, xsl_setR, xtag_setR, xown_setR, xlen_setR, xE_setW, xsz_setW, xsl_setW, xtag_setW, xown_setW, xlen_setW, xi_setR, xi_setW, xr_setI, xr_setW, xww_setI, xww_setR, xi_setI, xr_setR, xww_setW, xE_new, xsz_new, xsl_new, hX.tx, hX.xp, hX.P.tag, hX.P.f0, hX.P.f1, hX.P.f2, hX.lt, hX.l0, hX.l1, hX.l5, hX.l2, hX.l7, hX.fat, hX.kat, hX.lat, hX.kao, txr, nr, hX22.tx, hX22.xp, hX22.P.tag, hX22.P.f0, hX22.P.f1, hX22.P.f2, hX22.lt, hX22.l0, hX22.l1, hX22.l5, hX22.l2, hX22.l7, hX22.fat, hX22.kat, hX22.lat, hX22.kao, txr2, nr2, hk0, hne2]) rfl (by first | (rw [hX.kal]; omega) | (rw [xlen_setI, hX22.kal]; omega)) ?_
      refine xw_iconst (v := nI 1) (pc := 43) dX5_holds_43 rfl ?_
      refine xw_icmp_ne (pc := 44) 51 dX5_holds_44 rfl (fun hb44 => ?_) (fun hb44 => ?_)
      · refine xw_iconst (v := nI 0) (pc := 51) dX5_holds_51 rfl ?_
        refine xw_iret (pc := 52) .boolean dX5_holds_52 rfl ?_ 
        first
        | (refine ⟨congrArg (fun x => Sum.inl (some (Value.int x))) ?_, hX, xOnly.rf⟩
           rcases hM with q | q | q
           · exact absurd q hb9
           · first | (rw [q.2]; rfl) | exact absurd q.1 hb44
           · first | (rw [q.2]; rfl) | (rw [q.1] at hb44; exact absurd hb44 (by decide)))
        | (refine ⟨congrArg (fun x => Sum.inl (some (Value.int x))) ?_, hN, hc22.2.si⟩
           rw [xi_setIS hk0] at hb44
           first | (rw [hb25]; rfl) | exact absurd rfl hb44 | exact absurd hb44 (by decide))
      · refine xw_iconst (v := nI 1) (pc := 47) dX5_holds_47 rfl ?_
        refine xw_goto (pc := 48) 52 dX5_holds_48 rfl ?_
        refine xw_iret (pc := 52) .boolean dX5_holds_52 rfl ?_ 
        first
        | (refine ⟨congrArg (fun x => Sum.inl (some (Value.int x))) ?_, hX, xOnly.rf⟩
           rcases hM with q | q | q
           · exact absurd q hb9
           · first | (rw [q.2]; rfl) | exact absurd q.1 hb44
           · first | (rw [q.2]; rfl) | (rw [q.1] at hb44; exact absurd hb44 (by decide)))
        | (refine ⟨congrArg (fun x => Sum.inl (some (Value.int x))) ?_, hN, hc22.2.si⟩
           rw [xi_setIS hk0] at hb44
           first | (rw [hb25]; rfl) | exact absurd rfl hb44 | exact absurd hb44 (by decide))
theorem SP_X5_holdsT {x lk fa ka la p n rr ww k : Nat} {Z : xAd} {s : Nat → Int32} {day feats wo : Int32} {H : Nat → Bool} : ∀ (t r : Nat), r < rr → rr - r ≤ t → ∀ (d : Nat) (g : xG), 13 + 2 * t ≤ d → xCs g x lk fa ka la p Z s n rr ww k day feats wo H → XM M_X5_holds d [.ref lk, .ref ((aR Z).getD r 0)] g (xVal (.int (bI (H r))) (fun g' => xCs g' x lk fa ka la p Z s n rr ww k day feats wo H ∧ xOnly ka g g')) := by
  intro t
  induction t with
  | zero => intro r hr h; omega
  | succ t ih =>
    intro r hr ht d g hd hX
    obtain ⟨d', rfl⟩ : ∃ d', d = d' + 12 + 1 + 1 := ⟨d - 14, by omega⟩
    exact x_holds hX hr (x_finds (d := d') hX hr (fun i h1 h2 g' hX' => ih i h2 (by omega) (d' + 12) g' (by omega) hX'))
theorem SP_X5_holds {d r : Nat} {g : xG} {x lk fa ka la p n rr ww k : Nat} {Z : xAd} {s : Nat → Int32} {day feats wo : Int32} {H : Nat → Bool} (hX : xCs g x lk fa ka la p Z s n rr ww k day feats wo H) (hr : r < rr) : XM M_X5_holds (d + 45) [.ref lk, .ref ((aR Z).getD r 0)] g (xVal (.int (bI (H r))) (fun g' => xCs g' x lk fa ka la p Z s n rr ww k day feats wo H ∧ xOnly ka g g')) :=
  SP_X5_holdsT (rr - r) r hr (Nat.le_refl _) (d + 45) g (by have := hX.P.wf.r16; omega) hX
