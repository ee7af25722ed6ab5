/-! CLASS 22: a case, laid -/
set_option maxRecDepth 100000
theorem divs_S (v : Int32) : ∀ k, divs (k + 1) v = divs k v / nI 10 := by
  intro k
  induction k generalizing v with
  | zero => rfl
  | succ k ih => exact ih (v / nI 10)
/-- the look lk of x, its own cells -/
def xLb (g : xG) (x lk fa ka la : Nat) : Prop := (xtag g lk = 4 ∧ xr g lk 0 = some fa ∧ xr g lk 1 = some ka ∧ xr g lk 5 = some la ∧ xr g lk 7 = some x) ∧ (xtag g fa = 101 ∧ xlen g fa = 6 ∧ xtag g ka = 101 ∧ xlen g ka = 16 ∧ xtag g la = 101 ∧ xlen g la = 5) ∧ (xown g lk = 6 ∧ xown g fa = 6 ∧ xown g ka = 6 ∧ xown g la = 6) ∧ (ka ≠ fa ∧ ka ≠ la ∧ fa ≠ la)
/-- .. with a case laid, but for its digits -/
def xLc (g : xG) (x lk fa ka la p : Nat) (Z : xAd) (s : Nat → Int32) (n rr ww k : Nat) (day wo : Int32) : Prop := (xtag g x = 1 ∧ xown g x = 1 ∧ xr g x 0 = some p) ∧ xPol g p Z s n rr ww ∧ k < n ∧ xLb g x lk fa ka la ∧ xr g lk 2 = some ((aC Z).getD k 0) ∧ xi g lk 3 = day ∧ xi g lk 4 = wo
theorem xLb.fr {O : Nat → Prop} {N : Nat} {g g' : xG} {x lk fa ka la : Nat} (h : xLb g x lk fa ka la) (F : xFr O N g g') (h0 : ∀ j, j ≠ 2 → xr g' lk j = xr g lk j) : xLb g' x lk fa ka la := by
  obtain ⟨⟨a1, a2, a3, a4, a5⟩, ⟨b1, b2, b3, b4, b5, b6⟩, ⟨c1, c2, c3, c4⟩, d⟩ := h
  have hl : lk < xsz g := xlt (by rw [a1]; decide)
  have hf : fa < xsz g := xlt (by rw [b1]; decide)
  have hk : ka < xsz g := xlt (by rw [b3]; decide)
  have ha : la < xsz g := xlt (by rw [b5]; decide)
  exact ⟨⟨(F.tag hl).trans a1, (h0 0 (by decide)).trans a2, (h0 1 (by decide)).trans a3, (h0 5 (by decide)).trans a4, (h0 7 (by decide)).trans a5⟩, ⟨(F.tag hf).trans b1, (F.len hf).trans b2, (F.tag hk).trans b3, (F.len hk).trans b4, (F.tag ha).trans b5, (F.len ha).trans b6⟩, ⟨(F.own hl).trans c1, (F.own hf).trans c2, (F.own hk).trans c3, (F.own ha).trans c4⟩, d⟩
section L22
variable {g g' : xG} {x lk fa ka la p n rr ww k : Nat} {Z : xAd} {s : Nat → Int32} {day wo : Int32}
theorem xLc.tx (h : xLc g x lk fa ka la p Z s n rr ww k day wo) : xtag g x = 1 := h.1.1
theorem xLc.ox (h : xLc g x lk fa ka la p Z s n rr ww k day wo) : xown g x = 1 := h.1.2.1
theorem xLc.xp (h : xLc g x lk fa ka la p Z s n rr ww k day wo) : xr g x 0 = some p := h.1.2.2
theorem xLc.P (h : xLc g x lk fa ka la p Z s n rr ww k day wo) : xPol g p Z s n rr ww := h.2.1
theorem xLc.kn (h : xLc g x lk fa ka la p Z s n rr ww k day wo) : k < n := h.2.2.1
theorem xLc.B (h : xLc g x lk fa ka la p Z s n rr ww k day wo) : xLb g x lk fa ka la := h.2.2.2.1
theorem xLc.l2 (h : xLc g x lk fa ka la p Z s n rr ww k day wo) : xr g lk 2 = some ((aC Z).getD k 0) := h.2.2.2.2.1
theorem xLc.i3 (h : xLc g x lk fa ka la p Z s n rr ww k day wo) : xi g lk 3 = day := h.2.2.2.2.2.1
theorem xLc.i4 (h : xLc g x lk fa ka la p Z s n rr ww k day wo) : xi g lk 4 = wo := h.2.2.2.2.2.2
theorem xLb.lt (h : xLb g x lk fa ka la) : xtag g lk = 4 := h.1.1
theorem xLb.l0 (h : xLb g x lk fa ka la) : xr g lk 0 = some fa := h.1.2.1
theorem xLb.l1 (h : xLb g x lk fa ka la) : xr g lk 1 = some ka := h.1.2.2.1
theorem xLb.l5 (h : xLb g x lk fa ka la) : xr g lk 5 = some la := h.1.2.2.2.1
theorem xLb.l7 (h : xLb g x lk fa ka la) : xr g lk 7 = some x := h.1.2.2.2.2
theorem xLb.fat (h : xLb g x lk fa ka la) : xtag g fa = 101 := h.2.1.1
theorem xLb.fal (h : xLb g x lk fa ka la) : xlen g fa = 6 := h.2.1.2.1
theorem xLb.kat (h : xLb g x lk fa ka la) : xtag g ka = 101 := h.2.1.2.2.1
theorem xLb.kal (h : xLb g x lk fa ka la) : xlen g ka = 16 := h.2.1.2.2.2.1
theorem xLb.lko (h : xLb g x lk fa ka la) : xown g lk = 6 := h.2.2.1.1
theorem xLb.fao (h : xLb g x lk fa ka la) : xown g fa = 6 := h.2.2.1.2.1
theorem xLb.kao (h : xLb g x lk fa ka la) : xown g ka = 6 := h.2.2.1.2.2.1
theorem xLb.fao0 (h : xLb g x lk fa ka la) : ¬ xown g fa = 0 := by rw [h.fao]; decide
theorem xLb.lko0 (h : xLb g x lk fa ka la) : ¬ xown g lk = 0 := by rw [h.lko]; decide
theorem xLb.kao0 (h : xLb g x lk fa ka la) : xown g ka ≠ 0 := by rw [h.kao]; decide
theorem xLb.ne (h : xLb g x lk fa ka la) : ka ≠ fa ∧ ka ≠ la ∧ fa ≠ la := h.2.2.2
theorem xLc.fr (h : xLc g x lk fa ka la p Z s n rr ww k day wo) (F : xFr (oEq 6) 0 g g') (e : xc g' lk = xc g lk) : xLc g' x lk fa ka la p Z s n rr ww k day wo := by
  have hx : x < xsz g := xlt (by rw [h.tx]; decide)
  have nx : ¬ oEq 6 (xown g x) := by rw [h.ox]; unfold oEq; omega
  exact ⟨⟨(F.tag hx).trans h.tx, (F.own hx).trans h.ox, (F.r' hx nx).trans h.xp⟩, h.P.fr F (fun o h1 h2 => by have := h.P.p0; unfold oP at h1; unfold oEq at h2; omega) (by unfold oEq; omega), h.kn, h.B.fr F (fun j _ => xr_of e j), (xr_of e 2).trans h.l2, (xi_of e 3).trans h.i3, (xi_of e 4).trans h.i4⟩
/-- with digits, and nothing known yet -/
theorem xLc.fin {feats : Int32} {H : Nat → Bool} (h : xLc g x lk fa ka la p Z s n rr ww k day wo) (hf : ∀ f, f < 6 → xi g fa f = dig feats f) (hk : ∀ r, r < 16 → xi g ka r = nI 0) (hH : H = hld (isPa s) rr (cov s wo k day feats)) : xCs g x lk fa ka la p Z s n rr ww k day feats wo H := by
  obtain ⟨⟨a1, a2, a3, a4, a5⟩, ⟨b1, b2, b3, b4, b5, b6⟩, c, d⟩ := h.B
  exact ⟨h.1, h.P, h.kn, ⟨a1, a2, a3, a4, h.l2, h.i3, h.i4, b1, b2, b3, b4, b5, b6, hf⟩, a5, c, d, hH, fun r hr => Or.inl (hk r (by have := h.P.wf.r16; omega))⟩
theorem xCs.lc {feats : Int32} {H : Nat → Bool} (h : xCs g x lk fa ka la p Z s n rr ww k day feats wo H) : xLc g x lk fa ka la p Z s n rr ww k day wo := by
  obtain ⟨k1, k2, k3, k4, k5, k6, k7, k8, k9, k10, k11, k12, k13, k14⟩ := h.K
  exact ⟨h.1, h.P, h.kn, ⟨⟨k1, k2, k3, k4, h.l7⟩, ⟨k8, k9, k10, k11, k12, k13⟩, ⟨h.lko, h.fao, h.kao6, h.lao⟩, h.ne⟩, k5, k6, k7⟩
end L22
theorem tl_X5_at {d : Nat} {g g0 : xG} {x lk fa ka la p n rr ww k : Nat} {Z : xAd} {s : Nat → Int32} {day wo : Int32} {feats l5 a1 a2 a3 : Int32} (hX : xLc g x lk fa ka la p Z s n rr ww k day wo) (hD : ∀ f, f < 6 → xi g fa f = dig feats f) (hF : xFr (oEq 6) 0 g0 g) : XW M_X5_at_2 (d + 3) 38 [(6, .int (nI 0 + Int32.ofInt (-1))), (5, .int l5), (0, .ref lk), (1, .int a1), (2, .int a2), (3, .int a3), (4, .int wo)] [] g (xVal (.ref lk) (fun g' => xCs g' x lk fa ka la p Z s n rr ww k day feats wo (hld (isPa s) rr (cov s wo k day feats)) ∧ xFr (oEq 6) 0 g0 g')) := by
  have hB := hX.B
  have nl : lk ≠ ka := fun e => by have h1 := hB.lt; rw [e, hB.kat] at h1; cases h1
  have hlk : ka < xsz g := xlt (by rw [hB.kat]; decide)
  have FC : xFr (oEq 6) 0 g (xClr g ka 16) := xFr.rf.put rfl rfl rfl (Or.inr hB.kao)
  have hCl := hX.fr FC (xClr_c nl)
  have hfi := hCl.fin (feats := feats) (H := (hld (isPa s) rr (cov s wo k day feats))) (fun f hf => by rw [xi_of (xClr_c hB.ne.1.symm)]; exact hD f hf) (fun r hr => by
    rw [show xi (xClr g ka 16) ka r = (xc (xClr g ka 16) ka).2.2.2.1 r from rfl, xClr_a hlk]
    show (if r < 16 then nI 0 else _) = _
    rw [if_pos hr]) rfl
  refine xw_iload (pc := 38) dX5_at_2_38 0 rfl ?_
  refine xw_if_lt (pc := 40) 68 dX5_at_2_40 rfl (fun hb40 => ?_) (fun hb40 => ?_)
  rotate_left
  · exfalso
    exact hb40 (by decide)
  refine xw_aload_n (pc := 68) dX5_at_2_68 2 rfl ?_
  refine xw_callU (pc := 69) (xr_V (as := []) ok_X5_forgets rfl (by decide) q742 q744 qs7 (by rw [hB.lt]; rfl) (by rw [hB.lt]; rfl) dX5_at_2_69 rfl rfl (Nat.le_of_ble_eq_true rfl)) (SP_X5_forgets hB.lt hB.l1 hB.kat hB.kal hB.kao0) ?_
  refine xw_aload_n (pc := 72) dX5_at_2_72 2 rfl ?_
  refine xw_aret (pc := 73) (.object "PolicyNotation$Look") dX5_at_2_73 rfl ?_
  exact ⟨rfl, hfi, (hF.tr FC).sub (fun _ h => h) (Nat.le_refl _)⟩
theorem lp_X5_at {d : Nat} {g0 : xG} {x lk fa ka la p n rr ww k : Nat} {Z : xAd} {s : Nat → Int32} {day wo : Int32} {feats a1 a2 a3 : Int32} : ∀ (i : Nat), i < 6 → ∀ (g : xG), xLc g x lk fa ka la p Z s n rr ww k day wo → (∀ f, i < f → f < 6 → xi g fa f = dig feats f) → xFr (oEq 6) 0 g0 g → XW M_X5_at_2 (d + 3) 38 [(6, .int (nI i)), (5, .int (divs (5 - i) feats)), (0, .ref lk), (1, .int a1), (2, .int a2), (3, .int a3), (4, .int wo)] [] g (xVal (.ref lk) (fun g' => xCs g' x lk fa ka la p Z s n rr ww k day feats wo (hld (isPa s) rr (cov s wo k day feats)) ∧ xFr (oEq 6) 0 g0 g')) := by
  intro i
  induction i with
  | zero =>
    intro hi g hX hD hF
    have hB := hX.B
    have nlf : lk ≠ fa := fun e => by have h1 := hB.lt; rw [e, hB.fat] at h1; cases h1
    have nfa : xtag g fa ≠ 0 := by rw [hB.fat]; decide
    refine xw_iload (pc := 38) dX5_at_2_38 0 rfl ?_
    refine xw_if_lt (pc := 40) 68 dX5_at_2_40 rfl (fun hb => absurd hb (by decide)) (fun _ => ?_)
    refine xw_aload_n (pc := 43) dX5_at_2_43 2 rfl ?_
    refine xw_getS (b := fa) (pc := 44) fd_X5_15 dX5_at_2_44 (by first | assumption | (simp [-List.getD_eq_getElem?_getD, xE_setI, xsz_setI, xsl_setI, xtag_setI, xown_setI, xlen_setI, xE_setR, xsz_setR, xsl_setR, xtag_setR, xown_setR, xlen_setR, xE_setW, xsz_setW, xsl_setW, xtag_setW, xown_setW, xlen_setW, xi_setR, xi_setW, xr_setI, xr_setW, xww_setI, xww_setR, xi_setI, xr_setR, xww_setW, xE_new, xsz_new, xsl_new, hB.lt, hB.l0, hB.l1, hB.l5, hB.l7, hB.fat, hB.kat, hB.fao0, hB.lko0, xsub]; done) | (simp [-List.getD_eq_getElem?_getD, xE_setI, xsz_setI, xsl_setI, xtag_setI, xown_setI, xlen_setI, xE_setR, xsz_setR, xsl_setR, xtag_setR, xown_setR, xlen_setR, xE_setW, xsz_setW, xsl_setW, xtag_setW, xown_setW, xlen_setW, xi_setR, xi_setW, xr_setI, xr_setW, xww_setI, xww_setR, xi_setI, xr_setR, xww_setW, xE_new, xsz_new, xsl_new, hB.lt, hB.l0, hB.l1, hB.l5, hB.l7, hB.fat, hB.kat, hB.fao0, hB.lko0] <;> rfl)) (by simp [-List.getD_eq_getElem?_getD, xE_setI, xsz_setI, xsl_setI, xtag_setI, xown_setI, xlen_setI, xE_setR, xsz_setR, xsl_setR, xtag_setR, xown_setR, xlen_setR, xE_setW, xsz_setW, xsl_setW, xtag_setW, xown_setW, xlen_setW, xi_setR, xi_setW, xr_setI, xr_setW, xww_setI, xww_setR, xi_setI, xr_setR, xww_setW, xE_new, xsz_new, xsl_new, hB.lt, hB.l0, hB.l1, hB.l5, hB.l7, hB.fat, hB.kat, hB.fao0, hB.lko0]) ?_
    refine xw_iload (pc := 47) dX5_at_2_47 0 rfl ?_
    refine xw_iload (pc := 49) dX5_at_2_49 1 rfl ?_
    refine xw_bipush (v := nI 10) (pc := 51) dX5_at_2_51 (by decide +kernel) ?_
    refine xw_irem (pc := 53) dX5_at_2_53 (by decide) ?_
    refine xw_iast (k := 0) (pc := 54) dX5_at_2_54 (by simp [-List.getD_eq_getElem?_getD, xE_setI, xsz_setI, xsl_setI, xtag_setI, xown_setI, xlen_setI, xE_setR, xsz_setR, xsl_setR, xtag_setR, xown_setR, xlen_setR, xE_setW, xsz_setW, xsl_setW, xtag_setW, xown_setW, xlen_setW, xi_setR, xi_setW, xr_setI, xr_setW, xww_setI, xww_setR, xi_setI, xr_setR, xww_setW, xE_new, xsz_new, xsl_new, hB.lt, hB.l0, hB.l1, hB.l5, hB.l7, hB.fat, hB.kat, hB.fao0, hB.lko0]) (by first | assumption | (simp [-List.getD_eq_getElem?_getD, xE_setI, xsz_setI, xsl_setI, xtag_setI, xown_setI, xlen_setI, xE_setR, xsz_setR, xsl_setR, xtag_setR, xown_setR, xlen_setR, xE_setW, xsz_setW, xsl_setW, xtag_setW, xown_setW, xlen_setW, xi_setR, xi_setW, xr_setI, xr_setW, xww_setI, xww_setR, xi_setI, xr_setR, xww_setW, xE_new, xsz_new, xsl_new, hB.lt, hB.l0, hB.l1, hB.l5, hB.l7, hB.fat, hB.kat, hB.fao0, hB.lko0]; done) | (simp [-List.getD_eq_getElem?_getD, xE_setI, xsz_setI, xsl_setI, xtag_setI, xown_setI, xlen_setI, xE_setR, xsz_setR, xsl_setR, xtag_setR, xown_setR, xlen_setR, xE_setW, xsz_setW, xsl_setW, xtag_setW, xown_setW, xlen_setW, xi_setR, xi_setW, xr_setI, xr_setW, xww_setI, xww_setR, xi_setI, xr_setR, xww_setW, xE_new, xsz_new, xsl_new, hB.lt, hB.l0, hB.l1, hB.l5, hB.l7, hB.fat, hB.kat, hB.fao0, hB.lko0]; assumption)) rfl (by rw [hB.fal]; omega) ?_
    refine xw_iload (pc := 55) dX5_at_2_55 1 rfl ?_
    refine xw_bipush (v := nI 10) (pc := 57) dX5_at_2_57 (by decide +kernel) ?_
    refine xw_idiv (pc := 59) dX5_at_2_59 (by decide) ?_
    refine xw_istore (l' := [(5, _), (6, _), (0, _), (1, _), (2, _), (3, _), (4, _)]) (pc := 60) dX5_at_2_60 (by decide) rfl ?_
    have hF3 : xFr (oEq 6) 0 g0 (xsetI g fa 0 (dig feats 0)) := hF.si (Or.inr hB.fao)
    have hX3 := hX.fr (xFr.rf.si (a := fa) (j := 0) (v := dig feats 0) (Or.inr hB.fao)) (xc_setI nlf)
    have hD3 : ∀ f, 0 ≤ f → f < 6 → xi (xsetI g fa 0 (dig feats 0)) fa f = dig feats f := fun f h1 h2 => by
      by_cases e : f = 0
      · rw [e, xi_setIS nfa]
      · rw [xi_setIK e]; exact hD f (by omega) h2
    refine xw_iinc (l' := [(6, _), (5, _), (0, _), (1, _), (2, _), (3, _), (4, _)]) (pc := 62) dX5_at_2_62 1 rfl rfl (by decide) rfl ?_
    refine xw_goto (pc := 65) 38 dX5_at_2_65 rfl ?_
    exact tl_X5_at hX3 (fun f hf => hD3 f (Nat.zero_le _) hf) hF3
  | succ i ih =>
    intro hi g hX hD hF
    have hB := hX.B
    have nlf : lk ≠ fa := fun e => by have h1 := hB.lt; rw [e, hB.fat] at h1; cases h1
    have nfa : xtag g fa ≠ 0 := by rw [hB.fat]; decide
    refine xw_iload (pc := 38) dX5_at_2_38 0 rfl ?_
    refine xw_if_lt (pc := 40) 68 dX5_at_2_40 rfl (fun hb40 => ?_) (fun hb40 => ?_)
    · exfalso
      replace hb40 : (i + 1) < 0 := (nI_ltI (a := (i + 1)) (b := 0) (by omega) (by omega)).mp hb40
      omega
    replace hb40 : ¬ ((i + 1) < 0) := mt (nI_ltI (a := (i + 1)) (b := 0) (by omega) (by omega)).mpr hb40
    refine xw_aload_n (pc := 43) dX5_at_2_43 2 rfl ?_
    refine xw_getS (b := fa) (pc := 44) fd_X5_15 dX5_at_2_44 (by first | assumption | (simp [-List.getD_eq_getElem?_getD, xE_setI, xsz_setI, xsl_setI, xtag_setI, xown_setI, xlen_setI, xE_setR, xsz_setR, xsl_setR, xtag_setR, xown_setR, xlen_setR, xE_setW, xsz_setW, xsl_setW, xtag_setW, xown_setW, xlen_setW, xi_setR, xi_setW, xr_setI, xr_setW, xww_setI, xww_setR, xi_setI, xr_setR, xww_setW, xE_new, xsz_new, xsl_new, hB.lt, hB.l0, hB.l1, hB.l5, hB.l7, hB.fat, hB.kat, hB.fao0, hB.lko0, xsub]; done) | (simp [-List.getD_eq_getElem?_getD, xE_setI, xsz_setI, xsl_setI, xtag_setI, xown_setI, xlen_setI, xE_setR, xsz_setR, xsl_setR, xtag_setR, xown_setR, xlen_setR, xE_setW, xsz_setW, xsl_setW, xtag_setW, xown_setW, xlen_setW, xi_setR, xi_setW, xr_setI, xr_setW, xww_setI, xww_setR, xi_setI, xr_setR, xww_setW, xE_new, xsz_new, xsl_new, hB.lt, hB.l0, hB.l1, hB.l5, hB.l7, hB.fat, hB.kat, hB.fao0, hB.lko0] <;> rfl)) (by simp [-List.getD_eq_getElem?_getD, xE_setI, xsz_setI, xsl_setI, xtag_setI, xown_setI, xlen_setI, xE_setR, xsz_setR, xsl_setR, xtag_setR, xown_setR, xlen_setR, xE_setW, xsz_setW, xsl_setW, xtag_setW, xown_setW, xlen_setW, xi_setR, xi_setW, xr_setI, xr_setW, xww_setI, xww_setR, xi_setI, xr_setR, xww_setW, xE_new, xsz_new, xsl_new, hB.lt, hB.l0, hB.l1, hB.l5, hB.l7, hB.fat, hB.kat, hB.fao0, hB.lko0]) ?_
    refine xw_iload (pc := 47) dX5_at_2_47 0 rfl ?_
    refine xw_iload (pc := 49) dX5_at_2_49 1 rfl ?_
    refine xw_bipush (v := nI 10) (pc := 51) dX5_at_2_51 (by decide +kernel) ?_
    refine xw_irem (pc := 53) dX5_at_2_53 (by decide) ?_
    refine xw_iast (k := (i + 1)) (pc := 54) dX5_at_2_54 (by simp [-List.getD_eq_getElem?_getD, xE_setI, xsz_setI, xsl_setI, xtag_setI, xown_setI, xlen_setI, xE_setR, xsz_setR, xsl_setR, xtag_setR, xown_setR, xlen_setR, xE_setW, xsz_setW, xsl_setW, xtag_setW, xown_setW, xlen_setW, xi_setR, xi_setW, xr_setI, xr_setW, xww_setI, xww_setR, xi_setI, xr_setR, xww_setW, xE_new, xsz_new, xsl_new, hB.lt, hB.l0, hB.l1, hB.l5, hB.l7, hB.fat, hB.kat, hB.fao0, hB.lko0]) (by first | assumption | (simp [-List.getD_eq_getElem?_getD, xE_setI, xsz_setI, xsl_setI, xtag_setI, xown_setI, xlen_setI, xE_setR, xsz_setR, xsl_setR, xtag_setR, xown_setR, xlen_setR, xE_setW, xsz_setW, xsl_setW, xtag_setW, xown_setW, xlen_setW, xi_setR, xi_setW, xr_setI, xr_setW, xww_setI, xww_setR, xi_setI, xr_setR, xww_setW, xE_new, xsz_new, xsl_new, hB.lt, hB.l0, hB.l1, hB.l5, hB.l7, hB.fat, hB.kat, hB.fao0, hB.lko0]; done) | (simp [-List.getD_eq_getElem?_getD, xE_setI, xsz_setI, xsl_setI, xtag_setI, xown_setI, xlen_setI, xE_setR, xsz_setR, xsl_setR, xtag_setR, xown_setR, xlen_setR, xE_setW, xsz_setW, xsl_setW, xtag_setW, xown_setW, xlen_setW, xi_setR, xi_setW, xr_setI, xr_setW, xww_setI, xww_setR, xi_setI, xr_setR, xww_setW, xE_new, xsz_new, xsl_new, hB.lt, hB.l0, hB.l1, hB.l5, hB.l7, hB.fat, hB.kat, hB.fao0, hB.lko0]; assumption)) rfl (by rw [hB.fal]; omega) ?_
    refine xw_iload (pc := 55) dX5_at_2_55 1 rfl ?_
    refine xw_bipush (v := nI 10) (pc := 57) dX5_at_2_57 (by decide +kernel) ?_
    refine xw_idiv (pc := 59) dX5_at_2_59 (by decide) ?_
    refine xw_istore (l' := [(5, _), (6, _), (0, _), (1, _), (2, _), (3, _), (4, _)]) (pc := 60) dX5_at_2_60 (by decide) rfl ?_
    have hF3 : xFr (oEq 6) 0 g0 (xsetI g fa (i + 1) (dig feats (i + 1))) := hF.si (Or.inr hB.fao)
    have hX3 := hX.fr (xFr.rf.si (a := fa) (j := (i + 1)) (v := dig feats (i + 1)) (Or.inr hB.fao)) (xc_setI nlf)
    have hD3 : ∀ f, (i + 1) ≤ f → f < 6 → xi (xsetI g fa (i + 1) (dig feats (i + 1))) fa f = dig feats f := fun f h1 h2 => by
      by_cases e : f = (i + 1)
      · rw [e, xi_setIS nfa]
      · rw [xi_setIK e]; exact hD f (by omega) h2
    refine xw_iinc (v := nI ((i + 1) - 1)) (l' := [(6, _), (5, _), (0, _), (1, _), (2, _), (3, _), (4, _)]) (pc := 62) dX5_at_2_62 1 rfl (by exact nI_dec1 (by omega)) (by decide) rfl ?_
    refine xw_goto (pc := 65) 38 dX5_at_2_65 rfl ?_
    have e5 : divs (5 - (i + 1)) feats / nI 10 = divs (5 - i) feats := by rw [← divs_S]; congr 1; omega
    have h9 := ih (by omega) _ hX3 (fun f h1 h2 => hD3 f (by omega) h2) hF3
    rw [← e5] at h9
    exact h9
theorem SP_X5_at_2 {d : Nat} {g : xG} {x lk fa ka la p n rr ww k : Nat} {Z : xAd} {s : Nat → Int32} {day wo : Int32} {feats : Int32} (hx : xtag g x = 1) (hxo : xown g x = 1) (hxp : xr g x 0 = some p) (hP : xPol g p Z s n rr ww) (hk : k < n) (hB : xLb g x lk fa ka la) : XM M_X5_at_2 (d + 3) [.ref lk, .int (nI k), .int day, .int feats, .int wo] g (xVal (.ref lk) (fun g' => xCs g' x lk fa ka la p Z s n rr ww k day feats wo (hld (isPa s) rr (cov s wo k day feats)) ∧ xFr (oEq 6) 0 g g')) := by
  have n10 := hP.wf.n10
  have lc := hP.lc
  have tsc : xtag g ((aC Z).getD k 0) = 3 := (hP.sc k hk).1
  have nlk : xtag g lk ≠ 0 := by rw [hB.lt]; decide
  have F : xFr (oEq 6) 0 g (xsetI (xsetI (xsetR g lk 2 (some ((aC Z).getD k 0))) lk 3 day) lk 4 wo) := ((xFr.rf.sr (Or.inr hB.lko)).si (Or.inr (by rw [xown_setR]; exact hB.lko))).si (Or.inr (by rw [xown_setI, xown_setR]; exact hB.lko))
  have hxl : x < xsz g := xlt (by rw [hx]; decide)
  have nx : ¬ oEq 6 (xown g x) := by rw [hxo]; unfold oEq; omega
  have hX : xLc (xsetI (xsetI (xsetR g lk 2 (some ((aC Z).getD k 0))) lk 3 day) lk 4 wo) x lk fa ka la p Z s n rr ww k day wo := ⟨⟨(F.tag hxl).trans hx, (F.own hxl).trans hxo, (F.r' hxl nx).trans hxp⟩, hP.fr F (fun o h1 h2 => by have := hP.p0; unfold oP at h1; unfold oEq at h2; omega) (by unfold oEq; omega), hk, hB.fr F (fun j hj => by rw [xr_setI, xr_setI, xr_setRK hj]), by rw [xr_setI, xr_setI, xr_setRS nlk], by rw [xi_setIK (by decide), xi_setIS (by rw [xtag_setR]; exact nlk)], by rw [xi_setIS (by rw [xtag_setI, xtag_setR]; exact nlk)]⟩
  refine xm_of (by decide +kernel) (Nat.le_of_ble_eq_true rfl) ?_
  show XW _ _ 0 [(0, _), (1, _), (2, _), (3, _), (4, _)] [] _ _
  refine xw_aload_n (pc := 0) dX5_at_2_0 0 rfl ?_
  refine xw_aload_n (pc := 1) dX5_at_2_1 0 rfl ?_
  refine xw_getS (b := x) (pc := 2) fd_X5_3 dX5_at_2_2 (by first | assumption | (simp [-List.getD_eq_getElem?_getD, xE_setI, xsz_setI, xsl_setI, xtag_setI, xown_setI, xlen_setI, xE_setR, xsz_setR, xsl_setR, xtag_setR, xown_setR, xlen_setR, xE_setW, xsz_setW, xsl_setW, xtag_setW, xown_setW, xlen_setW, xi_setR, xi_setW, xr_setI, xr_setW, xww_setI, xww_setR, xi_setI, xr_setR, xww_setW, xE_new, xsz_new, xsl_new, hx, hxp, hP.tag, hP.f0, hB.lt, hB.l0, hB.l1, hB.l5, hB.l7, hB.fat, hB.kat, hB.fao0, hB.lko0, xsub]; done) | (simp [-List.getD_eq_getElem?_getD, xE_setI, xsz_setI, xsl_setI, xtag_setI, xown_setI, xlen_setI, xE_setR, xsz_setR, xsl_setR, xtag_setR, xown_setR, xlen_setR, xE_setW, xsz_setW, xsl_setW, xtag_setW, xown_setW, xlen_setW, xi_setR, xi_setW, xr_setI, xr_setW, xww_setI, xww_setR, xi_setI, xr_setR, xww_setW, xE_new, xsz_new, xsl_new, hx, hxp, hP.tag, hP.f0, hB.lt, hB.l0, hB.l1, hB.l5, hB.l7, hB.fat, hB.kat, hB.fao0, hB.lko0] <;> rfl)) (by simp [-List.getD_eq_getElem?_getD, xE_setI, xsz_setI, xsl_setI, xtag_setI, xown_setI, xlen_setI, xE_setR, xsz_setR, xsl_setR, xtag_setR, xown_setR, xlen_setR, xE_setW, xsz_setW, xsl_setW, xtag_setW, xown_setW, xlen_setW, xi_setR, xi_setW, xr_setI, xr_setW, xww_setI, xww_setR, xi_setI, xr_setR, xww_setW, xE_new, xsz_new, xsl_new, hx, hxp, hP.tag, hP.f0, hB.lt, hB.l0, hB.l1, hB.l5, hB.l7, hB.fat, hB.kat, hB.fao0, hB.lko0]) ?_
  refine xw_getS (b := p) (pc := 5) fd_X5_25 dX5_at_2_5 (by first | assumption | (simp [-List.getD_eq_getElem?_getD, xE_setI, xsz_setI, xsl_setI, xtag_setI, xown_setI, xlen_setI, xE_setR, xsz_setR, xsl_setR, xtag_setR, xown_setR, xlen_setR, xE_setW, xsz_setW, xsl_setW, xtag_setW, xown_setW, xlen_setW, xi_setR, xi_setW, xr_setI, xr_setW, xww_setI, xww_setR, xi_setI, xr_setR, xww_setW, xE_new, xsz_new, xsl_new, hx, hxp, hP.tag, hP.f0, hB.lt, hB.l0, hB.l1, hB.l5, hB.l7, hB.fat, hB.kat, hB.fao0, hB.lko0, xsub]; done) | (simp [-List.getD_eq_getElem?_getD, xE_setI, xsz_setI, xsl_setI, xtag_setI, xown_setI, xlen_setI, xE_setR, xsz_setR, xsl_setR, xtag_setR, xown_setR, xlen_setR, xE_setW, xsz_setW, xsl_setW, xtag_setW, xown_setW, xlen_setW, xi_setR, xi_setW, xr_setI, xr_setW, xww_setI, xww_setR, xi_setI, xr_setR, xww_setW, xE_new, xsz_new, xsl_new, hx, hxp, hP.tag, hP.f0, hB.lt, hB.l0, hB.l1, hB.l5, hB.l7, hB.fat, hB.kat, hB.fao0, hB.lko0] <;> rfl)) (by simp [-List.getD_eq_getElem?_getD, xE_setI, xsz_setI, xsl_setI, xtag_setI, xown_setI, xlen_setI, xE_setR, xsz_setR, xsl_setR, xtag_setR, xown_setR, xlen_setR, xE_setW, xsz_setW, xsl_setW, xtag_setW, xown_setW, xlen_setW, xi_setR, xi_setW, xr_setI, xr_setW, xww_setI, xww_setR, xi_setI, xr_setR, xww_setW, xE_new, xsz_new, xsl_new, hx, hxp, hP.tag, hP.f0, hB.lt, hB.l0, hB.l1, hB.l5, hB.l7, hB.fat, hB.kat, hB.fao0, hB.lko0]) ?_
  refine xw_getS (b := (aL Z 0)) (pc := 8) fd_X5_29 dX5_at_2_8 (by first | assumption | (simp [-List.getD_eq_getElem?_getD, xE_setI, xsz_setI, xsl_setI, xtag_setI, xown_setI, xlen_setI, xE_setR, xsz_setR, xsl_setR, xtag_setR, xown_setR, xlen_setR, xE_setW, xsz_setW, xsl_setW, xtag_setW, xown_setW, xlen_setW, xi_setR, xi_setW, xr_setI, xr_setW, xww_setI, xww_setR, xi_setI, xr_setR, xww_setW, xE_new, xsz_new, xsl_new, hx, hxp, hP.tag, hP.f0, hB.lt, hB.l0, hB.l1, hB.l5, hB.l7, hB.fat, hB.kat, hB.fao0, hB.lko0, xsub]; done) | (simp [-List.getD_eq_getElem?_getD, xE_setI, xsz_setI, xsl_setI, xtag_setI, xown_setI, xlen_setI, xE_setR, xsz_setR, xsl_setR, xtag_setR, xown_setR, xlen_setR, xE_setW, xsz_setW, xsl_setW, xtag_setW, xown_setW, xlen_setW, xi_setR, xi_setW, xr_setI, xr_setW, xww_setI, xww_setR, xi_setI, xr_setR, xww_setW, xE_new, xsz_new, xsl_new, hx, hxp, hP.tag, hP.f0, hB.lt, hB.l0, hB.l1, hB.l5, hB.l7, hB.fat, hB.kat, hB.fao0, hB.lko0] <;> rfl)) (by simp [-List.getD_eq_getElem?_getD, xE_setI, xsz_setI, xsl_setI, xtag_setI, xown_setI, xlen_setI, xE_setR, xsz_setR, xsl_setR, xtag_setR, xown_setR, xlen_setR, xE_setW, xsz_setW, xsl_setW, xtag_setW, xown_setW, xlen_setW, xi_setR, xi_setW, xr_setI, xr_setW, xww_setI, xww_setR, xi_setI, xr_setR, xww_setW, xE_new, xsz_new, xsl_new, hx, hxp, hP.tag, hP.f0, hB.lt, hB.l0, hB.l1, hB.l5, hB.l7, hB.fat, hB.kat, hB.fao0, hB.lko0]) ?_
  refine xw_iload_n (pc := 11) dX5_at_2_11 1 rfl ?_
  refine xw_callV (pc := 12) (xr_V (as := [_]) ok_J2_get rfl (by decide) q740 q706 q707 (by rw [hP.l0.1]; rfl) (by rw [hP.l0.1]; rfl) dX5_at_2_12 rfl rfl (Nat.le_of_ble_eq_true rfl)) (SP_J2_get hP.l0 k (by omega)) ?_
  refine xw_chkS (pc := 15) dX5_at_2_15 (by rw [tsc]; exact q741) (by rw [tsc]; rfl) ?_
  refine xw_putR (o := (some ((aC Z).getD k 0))) (pc := 18) fd_X5_43 (xfin_of (by decide) (by decide +kernel)) dX5_at_2_18 (by first | assumption | (simp [-List.getD_eq_getElem?_getD, xE_setI, xsz_setI, xsl_setI, xtag_setI, xown_setI, xlen_setI, xE_setR, xsz_setR, xsl_setR, xtag_setR, xown_setR, xlen_setR, xE_setW, xsz_setW, xsl_setW, xtag_setW, xown_setW, xlen_setW, xi_setR, xi_setW, xr_setI, xr_setW, xww_setI, xww_setR, xi_setI, xr_setR, xww_setW, xE_new, xsz_new, xsl_new, hx, hxp, hP.tag, hP.f0, hB.lt, hB.l0, hB.l1, hB.l5, hB.l7, hB.fat, hB.kat, hB.fao0, hB.lko0, xsub]; done) | (simp [-List.getD_eq_getElem?_getD, xE_setI, xsz_setI, xsl_setI, xtag_setI, xown_setI, xlen_setI, xE_setR, xsz_setR, xsl_setR, xtag_setR, xown_setR, xlen_setR, xE_setW, xsz_setW, xsl_setW, xtag_setW, xown_setW, xlen_setW, xi_setR, xi_setW, xr_setI, xr_setW, xww_setI, xww_setR, xi_setI, xr_setR, xww_setW, xE_new, xsz_new, xsl_new, hx, hxp, hP.tag, hP.f0, hB.lt, hB.l0, hB.l1, hB.l5, hB.l7, hB.fat, hB.kat, hB.fao0, hB.lko0] <;> rfl)) (by first | assumption | (simp [-List.getD_eq_getElem?_getD, xE_setI, xsz_setI, xsl_setI, xtag_setI, xown_setI, xlen_setI, xE_setR, xsz_setR, xsl_setR, xtag_setR, xown_setR, xlen_setR, xE_setW, xsz_setW, xsl_setW, xtag_setW, xown_setW, xlen_setW, xi_setR, xi_setW, xr_setI, xr_setW, xww_setI, xww_setR, xi_setI, xr_setR, xww_setW, xE_new, xsz_new, xsl_new, hx, hxp, hP.tag, hP.f0, hB.lt, hB.l0, hB.l1, hB.l5, hB.l7, hB.fat, hB.kat, hB.fao0, hB.lko0]; done) | (simp [-List.getD_eq_getElem?_getD, xE_setI, xsz_setI, xsl_setI, xtag_setI, xown_setI, xlen_setI, xE_setR, xsz_setR, xsl_setR, xtag_setR, xown_setR, xlen_setR, xE_setW, xsz_setW, xsl_setW, xtag_setW, xown_setW, xlen_setW, xi_setR, xi_setW, xr_setI, xr_setW, xww_setI, xww_setR, xi_setI, xr_setR, xww_setW, xE_new, xsz_new, xsl_new, hx, hxp, hP.tag, hP.f0, hB.lt, hB.l0, hB.l1, hB.l5, hB.l7, hB.fat, hB.kat, hB.fao0, hB.lko0]; assumption)) rfl ?_
  refine xw_aload_n (pc := 21) dX5_at_2_21 0 rfl ?_
  refine xw_iload_n (pc := 22) dX5_at_2_22 2 rfl ?_
  refine xw_putI (pc := 23) fd_X5_47 (xfin_of (by decide) (by decide +kernel)) dX5_at_2_23 (by first | assumption | (simp [-List.getD_eq_getElem?_getD, xE_setI, xsz_setI, xsl_setI, xtag_setI, xown_setI, xlen_setI, xE_setR, xsz_setR, xsl_setR, xtag_setR, xown_setR, xlen_setR, xE_setW, xsz_setW, xsl_setW, xtag_setW, xown_setW, xlen_setW, xi_setR, xi_setW, xr_setI, xr_setW, xww_setI, xww_setR, xi_setI, xr_setR, xww_setW, xE_new, xsz_new, xsl_new, hx, hxp, hP.tag, hP.f0, hB.lt, hB.l0, hB.l1, hB.l5, hB.l7, hB.fat, hB.kat, hB.fao0, hB.lko0, xsub]; done) | (simp [-List.getD_eq_getElem?_getD, xE_setI, xsz_setI, xsl_setI, xtag_setI, xown_setI, xlen_setI, xE_setR, xsz_setR, xsl_setR, xtag_setR, xown_setR, xlen_setR, xE_setW, xsz_setW, xsl_setW, xtag_setW, xown_setW, xlen_setW, xi_setR, xi_setW, xr_setI, xr_setW, xww_setI, xww_setR, xi_setI, xr_setR, xww_setW, xE_new, xsz_new, xsl_new, hx, hxp, hP.tag, hP.f0, hB.lt, hB.l0, hB.l1, hB.l5, hB.l7, hB.fat, hB.kat, hB.fao0, hB.lko0] <;> rfl)) (by first | assumption | (simp [-List.getD_eq_getElem?_getD, xE_setI, xsz_setI, xsl_setI, xtag_setI, xown_setI, xlen_setI, xE_setR, xsz_setR, xsl_setR, xtag_setR, xown_setR, xlen_setR, xE_setW, xsz_setW, xsl_setW, xtag_setW, xown_setW, xlen_setW, xi_setR, xi_setW, xr_setI, xr_setW, xww_setI, xww_setR, xi_setI, xr_setR, xww_setW, xE_new, xsz_new, xsl_new, hx, hxp, hP.tag, hP.f0, hB.lt, hB.l0, hB.l1, hB.l5, hB.l7, hB.fat, hB.kat, hB.fao0, hB.lko0]; done) | (simp [-List.getD_eq_getElem?_getD, xE_setI, xsz_setI, xsl_setI, xtag_setI, xown_setI, xlen_setI, xE_setR, xsz_setR, xsl_setR, xtag_setR, xown_setR, xlen_setR, xE_setW, xsz_setW, xsl_setW, xtag_setW, xown_setW, xlen_setW, xi_setR, xi_setW, xr_setI, xr_setW, xww_setI, xww_setR, xi_setI, xr_setR, xww_setW, xE_new, xsz_new, xsl_new, hx, hxp, hP.tag, hP.f0, hB.lt, hB.l0, hB.l1, hB.l5, hB.l7, hB.fat, hB.kat, hB.fao0, hB.lko0]; assumption)) ?_
  refine xw_aload_n (pc := 26) dX5_at_2_26 0 rfl ?_
  refine xw_iload (pc := 27) dX5_at_2_27 4 rfl ?_
  refine xw_putI (pc := 29) fd_X5_51 (xfin_of (by decide) (by decide +kernel)) dX5_at_2_29 (by first | assumption | (simp [-List.getD_eq_getElem?_getD, xE_setI, xsz_setI, xsl_setI, xtag_setI, xown_setI, xlen_setI, xE_setR, xsz_setR, xsl_setR, xtag_setR, xown_setR, xlen_setR, xE_setW, xsz_setW, xsl_setW, xtag_setW, xown_setW, xlen_setW, xi_setR, xi_setW, xr_setI, xr_setW, xww_setI, xww_setR, xi_setI, xr_setR, xww_setW, xE_new, xsz_new, xsl_new, hx, hxp, hP.tag, hP.f0, hB.lt, hB.l0, hB.l1, hB.l5, hB.l7, hB.fat, hB.kat, hB.fao0, hB.lko0, xsub]; done) | (simp [-List.getD_eq_getElem?_getD, xE_setI, xsz_setI, xsl_setI, xtag_setI, xown_setI, xlen_setI, xE_setR, xsz_setR, xsl_setR, xtag_setR, xown_setR, xlen_setR, xE_setW, xsz_setW, xsl_setW, xtag_setW, xown_setW, xlen_setW, xi_setR, xi_setW, xr_setI, xr_setW, xww_setI, xww_setR, xi_setI, xr_setR, xww_setW, xE_new, xsz_new, xsl_new, hx, hxp, hP.tag, hP.f0, hB.lt, hB.l0, hB.l1, hB.l5, hB.l7, hB.fat, hB.kat, hB.fao0, hB.lko0] <;> rfl)) (by first | assumption | (simp [-List.getD_eq_getElem?_getD, xE_setI, xsz_setI, xsl_setI, xtag_setI, xown_setI, xlen_setI, xE_setR, xsz_setR, xsl_setR, xtag_setR, xown_setR, xlen_setR, xE_setW, xsz_setW, xsl_setW, xtag_setW, xown_setW, xlen_setW, xi_setR, xi_setW, xr_setI, xr_setW, xww_setI, xww_setR, xi_setI, xr_setR, xww_setW, xE_new, xsz_new, xsl_new, hx, hxp, hP.tag, hP.f0, hB.lt, hB.l0, hB.l1, hB.l5, hB.l7, hB.fat, hB.kat, hB.fao0, hB.lko0]; done) | (simp [-List.getD_eq_getElem?_getD, xE_setI, xsz_setI, xsl_setI, xtag_setI, xown_setI, xlen_setI, xE_setR, xsz_setR, xsl_setR, xtag_setR, xown_setR, xlen_setR, xE_setW, xsz_setW, xsl_setW, xtag_setW, xown_setW, xlen_setW, xi_setR, xi_setW, xr_setI, xr_setW, xww_setI, xww_setR, xi_setI, xr_setR, xww_setW, xE_new, xsz_new, xsl_new, hx, hxp, hP.tag, hP.f0, hB.lt, hB.l0, hB.l1, hB.l5, hB.l7, hB.fat, hB.kat, hB.fao0, hB.lko0]; assumption)) ?_
  refine xw_iload_n (pc := 32) dX5_at_2_32 3 rfl ?_
  refine xw_istore (l' := [(5, _), (0, _), (1, _), (2, _), (3, _), (4, _)]) (pc := 33) dX5_at_2_33 (by decide) rfl ?_
  refine xw_iconst (v := nI 5) (pc := 35) dX5_at_2_35 rfl ?_
  refine xw_istore (l' := [(6, _), (5, _), (0, _), (1, _), (2, _), (3, _), (4, _)]) (pc := 36) dX5_at_2_36 (by decide) rfl ?_
  exact lp_X5_at 5 (by decide) _ hX (fun f h1 h2 => absurd h2 (by omega)) F

theorem SP_X5_on {d : Nat} {g : xG} {x lk fa ka la p n rr ww k : Nat} {Z : xAd} {s : Nat → Int32} {day feats wo : Int32} {H : Nat → Bool} {dy : Int32} (hX : xCs g x lk fa ka la p Z s n rr ww k day feats wo H) : XM M_X5_on (d + 1) [.ref lk, .int dy] g (xVal (.ref lk) (fun g' => xCs g' x lk fa ka la p Z s n rr ww k dy feats wo (hld (isPa s) rr (cov s wo k dy feats)) ∧ xFr (oEq 6) 0 g g')) := by
  have hC := hX.lc
  have hB0 := hC.B
  have nlk : xtag g lk ≠ 0 := by rw [hB0.lt]; decide
  have F0 : xFr (oEq 6) 0 g (xsetI g lk 3 dy) := xFr.rf.si (Or.inr hB0.lko)
  have nf : fa ≠ lk := fun e => by have h1 := hB0.lt; rw [← e, hB0.fat] at h1; cases h1
  have hxl : x < xsz g := xlt (by rw [hX.tx]; decide)
  have nx : ¬ oEq 6 (xown g x) := by rw [hX.ox]; unfold oEq; omega
  have hX1 : xLc (xsetI g lk 3 dy) x lk fa ka la p Z s n rr ww k dy wo := ⟨⟨(F0.tag hxl).trans hX.tx, (F0.own hxl).trans hX.ox, (F0.r' hxl nx).trans hX.xp⟩, hX.P.fr F0 (fun o h1 h2 => by have := hX.P.p0; unfold oP at h1; unfold oEq at h2; omega) (by unfold oEq; omega), hX.kn, hB0.fr F0 (fun j _ => xr_setI), by rw [xr_setI]; exact hX.l2, xi_setIS nlk, by rw [xi_setIK (by decide)]; exact hC.i4⟩
  have hB := hX1.B
  have nl : lk ≠ ka := fun e => by have h1 := hB0.lt; rw [e, hB0.kat] at h1; cases h1
  have hlk : ka < xsz (xsetI g lk 3 dy) := xlt (by rw [hB.kat]; decide)
  have FC : xFr (oEq 6) 0 (xsetI g lk 3 dy) (xClr (xsetI g lk 3 dy) ka 16) := xFr.rf.put rfl rfl rfl (Or.inr hB.kao)
  have hCl := hX1.fr FC (xClr_c nl)
  have hD : ∀ f, f < 6 → xi (xsetI g lk 3 dy) fa f = dig feats f := fun f hf => by rw [xi_setIN nf]; exact hX.K.2.2.2.2.2.2.2.2.2.2.2.2.2 f hf
  have hfi := hCl.fin (feats := feats) (H := (hld (isPa s) rr (cov s wo k dy feats))) (fun f hf => by rw [xi_of (xClr_c hB.ne.1.symm)]; exact hD f hf) (fun r hr => by
    rw [show xi (xClr (xsetI g lk 3 dy) ka 16) ka r = (xc (xClr (xsetI g lk 3 dy) ka 16) ka).2.2.2.1 r from rfl, xClr_a hlk]
    show (if r < 16 then nI 0 else _) = _
    rw [if_pos hr]) rfl
  refine xm_of (by decide +kernel) (Nat.le_of_ble_eq_true rfl) ?_
  show XW _ _ 0 [(0, _), (1, _)] [] _ _
  refine xw_aload_n (pc := 0) dX5_on_0 0 rfl ?_
  refine xw_iload_n (pc := 1) dX5_on_1 1 rfl ?_
  refine xw_putI (pc := 2) fd_X5_47 (xfin_of (by decide) (by decide +kernel)) dX5_on_2 (by first | assumption | (simp [-List.getD_eq_getElem?_getD, xE_setI, xsz_setI, xsl_setI, xtag_setI, xown_setI, xlen_setI, xE_setR, xsz_setR, xsl_setR, xtag_setR, xown_setR, xlen_setR, xE_setW, xsz_setW, xsl_setW, xtag_setW, xown_setW, xlen_setW, xi_setR, xi_setW, xr_setI, xr_setW, xww_setI, xww_setR, xi_setI, xr_setR, xww_setW, xE_new, xsz_new, xsl_new, hB0.lt, hB0.l0, hB0.l1, hB0.l5, hB0.l7, hB0.fat, hB0.kat, hB0.fao0, hB0.lko0, xsub]; done) | (simp [-List.getD_eq_getElem?_getD, xE_setI, xsz_setI, xsl_setI, xtag_setI, xown_setI, xlen_setI, xE_setR, xsz_setR, xsl_setR, xtag_setR, xown_setR, xlen_setR, xE_setW, xsz_setW, xsl_setW, xtag_setW, xown_setW, xlen_setW, xi_setR, xi_setW, xr_setI, xr_setW, xww_setI, xww_setR, xi_setI, xr_setR, xww_setW, xE_new, xsz_new, xsl_new, hB0.lt, hB0.l0, hB0.l1, hB0.l5, hB0.l7, hB0.fat, hB0.kat, hB0.fao0, hB0.lko0] <;> rfl)) (by first | assumption | (simp [-List.getD_eq_getElem?_getD, xE_setI, xsz_setI, xsl_setI, xtag_setI, xown_setI, xlen_setI, xE_setR, xsz_setR, xsl_setR, xtag_setR, xown_setR, xlen_setR, xE_setW, xsz_setW, xsl_setW, xtag_setW, xown_setW, xlen_setW, xi_setR, xi_setW, xr_setI, xr_setW, xww_setI, xww_setR, xi_setI, xr_setR, xww_setW, xE_new, xsz_new, xsl_new, hB0.lt, hB0.l0, hB0.l1, hB0.l5, hB0.l7, hB0.fat, hB0.kat, hB0.fao0, hB0.lko0]; done) | (simp [-List.getD_eq_getElem?_getD, xE_setI, xsz_setI, xsl_setI, xtag_setI, xown_setI, xlen_setI, xE_setR, xsz_setR, xsl_setR, xtag_setR, xown_setR, xlen_setR, xE_setW, xsz_setW, xsl_setW, xtag_setW, xown_setW, xlen_setW, xi_setR, xi_setW, xr_setI, xr_setW, xww_setI, xww_setR, xi_setI, xr_setR, xww_setW, xE_new, xsz_new, xsl_new, hB0.lt, hB0.l0, hB0.l1, hB0.l5, hB0.l7, hB0.fat, hB0.kat, hB0.fao0, hB0.lko0]; assumption)) ?_
  refine xw_aload_n (pc := 5) dX5_on_5 0 rfl ?_
  refine xw_callU (pc := 6) (xr_V (as := []) ok_X5_forgets rfl (by decide) q742 q744 qs7 (by first | (rw [hB.lt]; rfl) | (rw [hB0.lt]; rfl)) (by first | (rw [hB.lt]; rfl) | (rw [hB0.lt]; rfl)) dX5_on_6 rfl rfl (Nat.le_of_ble_eq_true rfl)) (SP_X5_forgets hB.lt hB.l1 hB.kat hB.kal hB.kao0) ?_
  refine xw_aload_n (pc := 9) dX5_on_9 0 rfl ?_
  refine xw_aret (pc := 10) (.object "PolicyNotation$Look") dX5_on_10 rfl ?_
  exact ⟨rfl, hfi, (F0.tr FC).sub (fun _ h => h) (Nat.le_refl _)⟩

theorem SP_X5_at {d : Nat} {g : xG} {x lk fa ka la p n rr ww w : Nat} {Z : xAd} {s : Nat → Int32} {wo : Int32} (hx : xtag g x = 1) (hxo : xown g x = 1) (hxp : xr g x 0 = some p) (hP : xPol g p Z s n rr ww) (hw : w < ww) (hB : xLb g x lk fa ka la) : XM M_X5_at (d + 4) [.ref lk, .ref ((aW Z).getD w 0), .int wo] g (xVal (.ref lk) (fun g' => xCs g' x lk fa ka la p Z s n rr ww (aN s (343 + 4 * w)) (s (343 + 4 * w + 1)) (s (343 + 4 * w + 2)) wo (hld (isPa s) rr (cov s wo (aN s (343 + 4 * w)) (s (343 + 4 * w + 1)) (s (343 + 4 * w + 2)))) ∧ xFr (oEq 6) 0 g g')) := by
  have hwk := hP.wk hw
  obtain ⟨w1, w2, w3, w4, w5, w6⟩ := hwk
  obtain ⟨⟨e1, e2⟩, -⟩ := hP.wf.wk hw
  rw [e1] at w3
  refine xm_of (by decide +kernel) (Nat.le_of_ble_eq_true rfl) ?_
  show XW _ _ 0 [(0, _), (1, _), (2, _)] [] _ _
  refine xw_aload_n (pc := 0) dX5_at_0 0 rfl ?_
  refine xw_aload_n (pc := 1) dX5_at_1 1 rfl ?_
  refine xw_getNat (k := (aN s (343 + 4 * w))) (pc := 2) fd_X5_57 dX5_at_2 (by first | assumption | (simp [-List.getD_eq_getElem?_getD, xE_setI, xsz_setI, xsl_setI, xtag_setI, xown_setI, xlen_setI, xE_setR, xsz_setR, xsl_setR, xtag_setR, xown_setR, xlen_setR, xE_setW, xsz_setW, xsl_setW, xtag_setW, xown_setW, xlen_setW, xi_setR, xi_setW, xr_setI, xr_setW, xww_setI, xww_setR, xi_setI, xr_setR, xww_setW, xE_new, xsz_new, xsl_new, w1, w3, w4, w5, hB.lt, xsub]; done) | (simp [-List.getD_eq_getElem?_getD, xE_setI, xsz_setI, xsl_setI, xtag_setI, xown_setI, xlen_setI, xE_setR, xsz_setR, xsl_setR, xtag_setR, xown_setR, xlen_setR, xE_setW, xsz_setW, xsl_setW, xtag_setW, xown_setW, xlen_setW, xi_setR, xi_setW, xr_setI, xr_setW, xww_setI, xww_setR, xi_setI, xr_setR, xww_setW, xE_new, xsz_new, xsl_new, w1, w3, w4, w5, hB.lt] <;> rfl)) (by simp [-List.getD_eq_getElem?_getD, xE_setI, xsz_setI, xsl_setI, xtag_setI, xown_setI, xlen_setI, xE_setR, xsz_setR, xsl_setR, xtag_setR, xown_setR, xlen_setR, xE_setW, xsz_setW, xsl_setW, xtag_setW, xown_setW, xlen_setW, xi_setR, xi_setW, xr_setI, xr_setW, xww_setI, xww_setR, xi_setI, xr_setR, xww_setW, xE_new, xsz_new, xsl_new, w1, w3, w4, w5, hB.lt]) ?_
  refine xw_aload_n (pc := 5) dX5_at_5 1 rfl ?_
  refine xw_getI (pc := 6) fd_X5_61 dX5_at_6 (by first | assumption | (simp [-List.getD_eq_getElem?_getD, xE_setI, xsz_setI, xsl_setI, xtag_setI, xown_setI, xlen_setI, xE_setR, xsz_setR, xsl_setR, xtag_setR, xown_setR, xlen_setR, xE_setW, xsz_setW, xsl_setW, xtag_setW, xown_setW, xlen_setW, xi_setR, xi_setW, xr_setI, xr_setW, xww_setI, xww_setR, xi_setI, xr_setR, xww_setW, xE_new, xsz_new, xsl_new, w1, w3, w4, w5, hB.lt, xsub]; done) | (simp [-List.getD_eq_getElem?_getD, xE_setI, xsz_setI, xsl_setI, xtag_setI, xown_setI, xlen_setI, xE_setR, xsz_setR, xsl_setR, xtag_setR, xown_setR, xlen_setR, xE_setW, xsz_setW, xsl_setW, xtag_setW, xown_setW, xlen_setW, xi_setR, xi_setW, xr_setI, xr_setW, xww_setI, xww_setR, xi_setI, xr_setR, xww_setW, xE_new, xsz_new, xsl_new, w1, w3, w4, w5, hB.lt] <;> rfl)) ?_
  rw [w4]
  refine xw_aload_n (pc := 9) dX5_at_9 1 rfl ?_
  refine xw_getI (pc := 10) fd_X5_62 dX5_at_10 (by first | assumption | (simp [-List.getD_eq_getElem?_getD, xE_setI, xsz_setI, xsl_setI, xtag_setI, xown_setI, xlen_setI, xE_setR, xsz_setR, xsl_setR, xtag_setR, xown_setR, xlen_setR, xE_setW, xsz_setW, xsl_setW, xtag_setW, xown_setW, xlen_setW, xi_setR, xi_setW, xr_setI, xr_setW, xww_setI, xww_setR, xi_setI, xr_setR, xww_setW, xE_new, xsz_new, xsl_new, w1, w3, w4, w5, hB.lt, xsub]; done) | (simp [-List.getD_eq_getElem?_getD, xE_setI, xsz_setI, xsl_setI, xtag_setI, xown_setI, xlen_setI, xE_setR, xsz_setR, xsl_setR, xtag_setR, xown_setR, xlen_setR, xE_setW, xsz_setW, xsl_setW, xtag_setW, xown_setW, xlen_setW, xi_setR, xi_setW, xr_setI, xr_setW, xww_setI, xww_setR, xi_setI, xr_setR, xww_setW, xE_new, xsz_new, xsl_new, w1, w3, w4, w5, hB.lt] <;> rfl)) ?_
  rw [w5]
  refine xw_iload_n (pc := 13) dX5_at_13 2 rfl ?_
  refine xw_callF (pc := 14) (xr_V (as := [_, _, _, _]) ok_X5_at_2 rfl (by decide) q736 q737 q738 (by rw [hB.lt]; rfl) (by rw [hB.lt]; rfl) dX5_at_14 rfl rfl (Nat.le_of_ble_eq_true rfl)) (SP_X5_at_2 hx hxo hxp hP e2 hB) ?_
  intro g14 hc14 hm14
  refine xw_aret (pc := 17) (.object "PolicyNotation$Look") dX5_at_17 rfl ?_
  exact ⟨rfl, hc14⟩

