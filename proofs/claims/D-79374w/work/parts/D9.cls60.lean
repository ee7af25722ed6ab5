/-! CLASS 60: the reader made -/
set_option maxRecDepth 100000
theorem SP_X18_init {d : Nat} {g : xG} {R tb n : Nat} {ch : Nat → Nat} (hE : xEmp g) (t1 : xtag g R = 15) (t2 : xown g R = 14) (z2 : xi g R 2 = 0) (hB : xBd g 11 tb n ch) (hn : n ≤ 60) : XM M_X18_init (d + 5) [.ref R, .ref tb] g (xVoid (fun g' => ∃ D tl, xRd g' R D tb 0 n ch ∧ xDr g' D none (-1) (nI 0) (nI 0) (nI 0) (nI 999) tl ((xE g).2.2.1 4) [] ∧ xFr o145 20 g g')) := by
  have rl : R < xsz g := xlt (by rw [t1]; decide)
  have FN : xFr o145 8 g (xNew g (xBlank 16 14 7) 7) := (xFr.rf (O := o145) (n := 0)).nw.sub (fun _ h => h) (by omega)
  have v1 : xtag (xNew g (xBlank 16 14 7) 7) (xsz g) = 16 := xtag_newS rfl
  have v2 : xown (xNew g (xBlank 16 14 7) 7) (xsz g) = 14 := xown_newS rfl
  obtain ⟨em1, em2, em3⟩ := hE
  have eml : (xE g).2.2.1 4 < xsz g := xlt (by rw [em1]; decide)
  have hE2 : xEmp (xNew g (xBlank 16 14 7) 7) := ⟨(FN.tag eml).trans em1, (FN.len eml).trans em2, (FN.own eml).trans em3⟩
  refine xm_of (by decide +kernel) (Nat.le_of_ble_eq_true rfl) ?_
  show XW _ _ 0 [(0, _), (1, _)] [] _ _
  refine xw_aload_n (pc := 0) dX18_init_0 0 rfl ?_
  refine xw_objInit (pc := 1) dX18_init_1 q1843 (Nat.le_of_ble_eq_true rfl) ?_
  refine xw_aload_n (pc := 4) dX18_init_4 0 rfl ?_
  refine xw_new (t := 16) (pc := 5) 14 dX18_init_5 rfl (by decide) (by first | decide | assumption | omega) q1844 q1845 q139 ?_
  refine xw_at (a := (xsz g)) (by rfl) ?_
  refine xw_dup (pc := 8) dX18_init_8 rfl ?_
  refine xw_callH (pc := 9) (xr_IN (as := []) ok_X19_init rfl (by decide) q1846 q1847 rfl rfl dX18_init_9 rfl rfl (Nat.le_of_ble_eq_true rfl)) (SP_X19_init hE2 v1 v2 (xr_newS rfl) (xi_newS rfl) (xi_newS rfl) (xi_newS rfl)) ?_
  intro g9 hc9 hm9
  obtain ⟨tl, hDr, hF9, hK9⟩ := hc9
  have F9 : xFr o145 16 g g9 := (FN.tr hF9).sub (fun _ h => h) (by omega)
  have r9 : xtag g9 R = 15 := (F9.tag rl).trans t1
  have o9 : xown g9 R = 14 := (F9.own rl).trans t2
  have i9 : xi g9 R 2 = nI 0 := by
    have rlN : R < xsz (xNew g (xBlank 16 14 7) 7) := FN.lt rl
    have e1 : xc (xNew g (xBlank 16 14 7) 7) R = xc g R := xc_newN (Nat.ne_of_lt rl)
    have h9 := hK9 R rlN (Nat.ne_of_lt rl) (by rw [FN.own rl, t2]; decide)
    exact ((xi_of h9 2).trans (xi_of e1 2)).trans z2
  have o9n : xown g9 R ≠ 0 := by rw [o9]; decide
  refine xw_putR (o := (some (xsz g))) (pc := 12) fd_X18_12 (xfin_of (by decide) (by decide +kernel)) dX18_init_12 (by first | assumption | (simp [-List.getD_eq_getElem?_getD, xE_setI, xsz_setI, xsl_setI, xtag_setI, xown_setI, xlen_setI, xE_setR, xsz_setR, xsl_setR, xtag_setR, xown_setR, xlen_setR, xE_setW, xsz_setW, xsl_setW, xtag_setW, xown_setW, xlen_setW, xi_setR, xi_setW, xr_setI, xr_setW, xww_setI, xww_setR, xi_setI, xr_setR, xww_setW, xE_new, xsz_new, xsl_new, t1, r9, o9n, xsub]; done) | (simp [-List.getD_eq_getElem?_getD, xE_setI, xsz_setI, xsl_setI, xtag_setI, xown_setI, xlen_setI, xE_setR, xsz_setR, xsl_setR, xtag_setR, xown_setR, xlen_setR, xE_setW, xsz_setW, xsl_setW, xtag_setW, xown_setW, xlen_setW, xi_setR, xi_setW, xr_setI, xr_setW, xww_setI, xww_setR, xi_setI, xr_setR, xww_setW, xE_new, xsz_new, xsl_new, t1, r9, o9n] <;> rfl)) (by first | assumption | (simp [-List.getD_eq_getElem?_getD, xE_setI, xsz_setI, xsl_setI, xtag_setI, xown_setI, xlen_setI, xE_setR, xsz_setR, xsl_setR, xtag_setR, xown_setR, xlen_setR, xE_setW, xsz_setW, xsl_setW, xtag_setW, xown_setW, xlen_setW, xi_setR, xi_setW, xr_setI, xr_setW, xww_setI, xww_setR, xi_setI, xr_setR, xww_setW, xE_new, xsz_new, xsl_new, t1, r9, o9n]; done) | (simp [-List.getD_eq_getElem?_getD, xE_setI, xsz_setI, xsl_setI, xtag_setI, xown_setI, xlen_setI, xE_setR, xsz_setR, xsl_setR, xtag_setR, xown_setR, xlen_setR, xE_setW, xsz_setW, xsl_setW, xtag_setW, xown_setW, xlen_setW, xi_setR, xi_setW, xr_setI, xr_setW, xww_setI, xww_setR, xi_setI, xr_setR, xww_setW, xE_new, xsz_new, xsl_new, t1, r9, o9n]; assumption)) rfl ?_
  refine xw_aload_n (pc := 15) dX18_init_15 0 rfl ?_
  refine xw_aload_n (pc := 16) dX18_init_16 1 rfl ?_
  refine xw_putR (o := (some tb)) (pc := 17) fd_X18_18 (xfin_of (by decide) (by decide +kernel)) dX18_init_17 (by first | assumption | (simp [-List.getD_eq_getElem?_getD, xE_setI, xsz_setI, xsl_setI, xtag_setI, xown_setI, xlen_setI, xE_setR, xsz_setR, xsl_setR, xtag_setR, xown_setR, xlen_setR, xE_setW, xsz_setW, xsl_setW, xtag_setW, xown_setW, xlen_setW, xi_setR, xi_setW, xr_setI, xr_setW, xww_setI, xww_setR, xi_setI, xr_setR, xww_setW, xE_new, xsz_new, xsl_new, t1, r9, o9n, xsub]; done) | (simp [-List.getD_eq_getElem?_getD, xE_setI, xsz_setI, xsl_setI, xtag_setI, xown_setI, xlen_setI, xE_setR, xsz_setR, xsl_setR, xtag_setR, xown_setR, xlen_setR, xE_setW, xsz_setW, xsl_setW, xtag_setW, xown_setW, xlen_setW, xi_setR, xi_setW, xr_setI, xr_setW, xww_setI, xww_setR, xi_setI, xr_setR, xww_setW, xE_new, xsz_new, xsl_new, t1, r9, o9n] <;> rfl)) (by first | assumption | (simp [-List.getD_eq_getElem?_getD, xE_setI, xsz_setI, xsl_setI, xtag_setI, xown_setI, xlen_setI, xE_setR, xsz_setR, xsl_setR, xtag_setR, xown_setR, xlen_setR, xE_setW, xsz_setW, xsl_setW, xtag_setW, xown_setW, xlen_setW, xi_setR, xi_setW, xr_setI, xr_setW, xww_setI, xww_setR, xi_setI, xr_setR, xww_setW, xE_new, xsz_new, xsl_new, t1, r9, o9n]; done) | (simp [-List.getD_eq_getElem?_getD, xE_setI, xsz_setI, xsl_setI, xtag_setI, xown_setI, xlen_setI, xE_setR, xsz_setR, xsl_setR, xtag_setR, xown_setR, xlen_setR, xE_setW, xsz_setW, xsl_setW, xtag_setW, xown_setW, xlen_setW, xi_setR, xi_setW, xr_setI, xr_setW, xww_setI, xww_setR, xi_setI, xr_setR, xww_setW, xE_new, xsz_new, xsl_new, t1, r9, o9n]; assumption)) rfl ?_
  refine xw_vret (pc := 20) dX18_init_20 rfl ?_
  have nRD : xsz g ≠ R := by omega
  have hB9 : xBd g9 11 tb n ch := hB.fr F9 (by unfold o145; omega)
  have FX : xFr (oEq 14) 0 g9 (xsetR (xsetR g9 R 1 (some (xsz g))) R 0 (some tb)) := (xFr.rf.sr (Or.inr o9)).sr (Or.inr (by rw [xown_setR]; exact o9))
  have ec : xc (xsetR (xsetR g9 R 1 (some (xsz g))) R 0 (some tb)) (xsz g) = xc g9 (xsz g) := (xc_setR nRD).trans (xc_setR nRD)
  refine ⟨rfl, xsz g, tl, ⟨by rw [xtag_setR, xtag_setR]; exact r9, by rw [xown_setR, xown_setR]; exact o9, xr_setRS (by rw [xtag_setR, r9]; decide), (xr_setRK (by decide)).trans (xr_setRS (by rw [r9]; decide)), by rw [xi_setR, xi_setR]; exact i9, hB9.fr FX (by unfold oEq; omega), hn, Nat.zero_le _⟩, hDr.fr FX ec (by unfold oEq; omega), ?_⟩
  exact ((F9.tr FX.b14).sub (fun _ h => h) (by omega))

