/-! LAW 16: the law's beginning -/
set_option maxRecDepth 100000

theorem L_start {d sc len : Nat} {scr : Nat → Int32} {g : xG} (hK : xKs g) (hsc : xtag g sc = 101 ∧ xown g sc = 0 ∧ xlen g sc = len ∧ ∀ j, j < len → xi g sc j = scr j) (hl : len ≤ 144) {Q : Option Value ⊕ Nat → xG → Prop} (hQ : ∀ h, xsz h + xsl h ≤ xsz g + xsl g + 1112000 → Q (.inl (some (.int (nI 1)))) h) : XW M_L_law (d + 92) 0 [(0, .ref sc)] [] g Q := by
  refine xw_new (t := 1) (pc := 0) 1 dL_law_0 rfl (by decide) (by first | decide | assumption | omega) q143 q144 q92 ?_
  refine xw_at (a := (xsz g)) (by rfl) ?_
  have X0 : xX1 (xNew g (xBlank 1 1 11) 11) (xsz g) (fun _ => none) (fun _ => 0) := ⟨xtag_newS rfl, xown_newS rfl, fun j => xr_newS rfl, fun j => xi_newS rfl⟩
  have N0 : xFr oNo 12 g (xNew g (xBlank 1 1 11) 11) := (xFr.rf (n := 0)).nw
  have K0 := hK.fr N0 (fun h => h)
  have s0 : xsz (xNew g (xBlank 1 1 11) 11) = xsz g + 1 := rfl
  generalize xNew g (xBlank 1 1 11) 11 = g0 at X0 N0 K0 s0 ⊢
  have tx0 := X0.1
  refine xw_dup (pc := 3) dL_law_3 rfl ?_
  refine xw_callH (pc := 4) (xr_I (as := []) ok_X1_init rfl (by decide) q145 q146 rfl rfl dL_law_4 rfl rfl (Nat.le_of_ble_eq_true rfl)) (SP_X1_init (d := d + 82) X0 K0) ?_
  intro g1 hc1 hm1
  obtain ⟨st1, k1, F1⟩ := hc1
  refine xw_astore_n (l' := [(1, _), (0, _)]) (pc := 7) dL_law_7 rfl (by decide) rfl ?_
  refine xw_new (t := 5) (pc := 8) 3 dL_law_8 rfl (by decide) (by first | decide | assumption | omega) q2241 q2242 q118 ?_
  have N1 : xFr oNo 35 g1 (xNew g1 (xBlank 5 3 34) 34) := (xFr.rf (n := 0)).nw
  have m1 : xtag (xNew g1 (xBlank 5 3 34) 34) (xsz g1) = 5 := xtag_newS rfl
  have m2 : xown (xNew g1 (xBlank 5 3 34) 34) (xsz g1) = 3 := xown_newS rfl
  have m3 : ∀ j, xi (xNew g1 (xBlank 5 3 34) 34) (xsz g1) j = 0 := fun j => xi_newS rfl
  have m4 : xsz (xNew g1 (xBlank 5 3 34) 34) = xsz g1 + 1 := rfl
  have hx1 : xsz g < xsz g1 := F1.lt X0.lt
  generalize xNew g1 (xBlank 5 3 34) 34 = g2 at N1 m1 m2 m3 m4 ⊢
  generalize hm : xsz g1 = m at m1 m2 m3 m4 hx1 ⊢
  refine xw_dup (pc := 11) dL_law_11 rfl ?_
  refine xw_callH (pc := 12) (xr_I (as := []) ok_X6_init rfl (by decide) q2243 q2244 rfl rfl dL_law_12 rfl rfl (Nat.le_of_ble_eq_true rfl)) (SP_X6_init (d := d + 90) m1 m2 m4 m3) ?_
  intro g3b hc3 hm3
  obtain ⟨g3, e3, hM3, h33, F3⟩ := hc3
  subst e3
  refine xw_astore_n (l' := [(2, _), (1, _), (0, _)]) (pc := 15) dL_law_15 rfl (by decide) rfl ?_
  refine xw_iconst (v := nI 1) (pc := 16) dL_law_16 rfl ?_
  refine xw_newa_long (n := 1) (pc := 17) 4 dL_law_17 q2762 (by first | decide | assumption | omega) rfl (by omega) ?_
  refine xw_at (a := (xsz (xWith g3 m (iS iF 6 3)))) (by rfl) ?_
  have N4 : xFr oNo 2 (xWith g3 m (iS iF 6 3)) (xNew (xWith g3 m (iS iF 6 3)) (xBlank 106 4 1) 1) := (xFr.rf (n := 0)).nw
  have a1 : xtag (xNew (xWith g3 m (iS iF 6 3)) (xBlank 106 4 1) 1) (xsz (xWith g3 m (iS iF 6 3))) = 106 := xtag_newS rfl
  have a2 : xown (xNew (xWith g3 m (iS iF 6 3)) (xBlank 106 4 1) 1) (xsz (xWith g3 m (iS iF 6 3))) = 4 := xown_newS rfl
  have a3 : xlen (xNew (xWith g3 m (iS iF 6 3)) (xBlank 106 4 1) 1) (xsz (xWith g3 m (iS iF 6 3))) = 1 := xlen_newS rfl
  generalize xNew (xWith g3 m (iS iF 6 3)) (xBlank 106 4 1) 1 = g4 at N4 a1 a2 a3 ⊢
  generalize xsz (xWith g3 m (iS iF 6 3)) = out at a1 a2 a3 ⊢
  refine xw_astore_n (l' := [(3, _), (2, _), (1, _), (0, _)]) (pc := 19) dL_law_19 rfl (by decide) rfl ?_
  refine xw_iconst (v := nI 1) (pc := 20) dL_law_20 rfl ?_
  refine xw_newa_double (n := 1) (pc := 21) 4 dL_law_21 q2763 (by first | decide | assumption | omega) rfl (by omega) ?_
  refine xw_at (a := (xsz g4)) (by rfl) ?_
  have N5 : xFr oNo 2 g4 (xNew g4 (xBlank 107 4 1) 1) := (xFr.rf (n := 0)).nw
  have b1 : xtag (xNew g4 (xBlank 107 4 1) 1) (xsz g4) = 107 := xtag_newS rfl
  have b2 : xown (xNew g4 (xBlank 107 4 1) 1) (xsz g4) = 4 := xown_newS rfl
  have b3 : xlen (xNew g4 (xBlank 107 4 1) 1) (xsz g4) = 1 := xlen_newS rfl
  generalize xNew g4 (xBlank 107 4 1) 1 = g5 at N5 b1 b2 b3 ⊢
  generalize xsz g4 = outD at b1 b2 b3 ⊢
  refine xw_astore (l' := [(4, _), (3, _), (2, _), (1, _), (0, _)]) (pc := 23) dL_law_23 (by decide) rfl ?_
  refine xw_iconst (v := nI 0) (pc := 25) dL_law_25 rfl ?_
  refine xw_istore (l' := [(5, _), (4, _), (3, _), (2, _), (1, _), (0, _)]) (pc := 26) dL_law_26 (by decide) rfl ?_
  refine xw_pick (pc := 28) (l' := [(0, _), (1, _), (2, _), (3, _), (4, _), (5, _)]) [5, 4, 3, 2, 1, 0] rfl ?_
  refine L_loop (x := xsz g) (m := m) (scr := scr) hl (B := xsz g + xsl g + 1112000) hQ 25 0 g5 (iS iF 6 3) (by omega) (by omega) ?_ ?_
  · have FA : xFr (oEq 3) 5000 g1 g3 := ((N1.sub (O' := oEq 3) (fun _ h => h.elim) (Nat.le_refl _)).tr F3).sub (fun _ h => h) (by omega)
    have FW : xFr (oEq 3) 0 g3 (xWith g3 m (iS iF 6 3)) := with_F (S := iS iF 6 3) h33
    have FB : xFr oNo 4 (xWith g3 m (iS iF 6 3)) g5 := N4.tr N5
    obtain ⟨we, wM, w3⟩ := with_fr hM3 h33 FB (fun h => h)
    have FC : xFr (oEq 3) 5010 g1 g5 := ((FA.tr FW).tr (FB.sub (O' := oEq 3) (fun _ h => h.elim) (Nat.le_refl _))).sub (fun _ h => h) (by omega)
    obtain ⟨p_, lk_, fa_, ka_, la_, Z_, n_, rr_, ww_, dq_, da_, hh_, ps_, sv_, hp_⟩ := st1.p
    have hsl : sc < xsz g := xlt (by rw [hsc.1]; decide)
    have FD : xFr (fun o => o ≠ 0) 400 g g1 := ((N0.sub (O' := fun o => o ≠ 0) (fun _ h => h.elim) (Nat.le_refl _)).tr (F1.sub (O' := fun o => o ≠ 0) (fun o h => by unfold oP at h; omega) (Nat.le_refl _))).sub (fun _ h => h) (by omega)
    have FE : xFr (fun o => o ≠ 0) 6000 g g5 := (FD.tr (FC.sub (O' := fun o => o ≠ 0) (fun o h => by unfold oEq at h; omega) (Nat.le_refl _))).sub (fun _ h => h) (by omega)
    have hol : out < xsz g4 := xlt (by rw [a1]; decide)
    have n0 : ¬ (fun o => o ≠ 0) (xown g sc) := fun h => h hsc.2.1
    exact ⟨⟨(hp_.fr FC (fun o h => by unfold oEq at h; omega)).st, k1.fr FC (by unfold oEq; omega)⟩, ⟨wM, w3, we⟩, ⟨(N5.tag hol).trans a1, (N5.own hol).trans a2, (N5.len hol).trans a3⟩, ⟨b1, b2, b3⟩, (FE.tag hsl).trans hsc.1, (FE.own hsl).trans hsc.2.1, (FE.len hsl).trans hsc.2.2.1, fun j hj => (FE.i' hsl n0).trans (hsc.2.2.2 j hj)⟩
  · have := N0.2.2.2.1
    have := F1.2.2.2.1
    have := N1.2.2.2.1
    have := F3.2.2.2.1
    have := N4.2.2.2.1
    have := N5.2.2.2.1
    have e1 : xsz (xWith g3 m (iS iF 6 3)) = xsz g3 := rfl
    have e2 : xsl (xWith g3 m (iS iF 6 3)) = xsl g3 := rfl
    omega
