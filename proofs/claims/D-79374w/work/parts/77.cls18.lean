/-! CLASS 18: what prevails; the outcome -/
set_option maxRecDepth 100000
theorem nsub_neg {x y : Nat} (hx : x < 2 ^ 30) (hy : y < 2 ^ 30) : nI x - nI y < 0 ↔ x < y := by
  rw [Int32.lt_iff_toInt_lt, Int32.toInt_sub, nI_toInt (by omega), nI_toInt (by omega), Int.bmod_def]
  show _ < (0 : Int) ↔ _
  split <;> omega
theorem nsub_pos {x y : Nat} (hx : x < 2 ^ 30) (hy : y < 2 ^ 30) : 0 < nI x - nI y ↔ y < x := by
  rw [Int32.lt_iff_toInt_lt, Int32.toInt_sub, nI_toInt (by omega), nI_toInt (by omega), Int.bmod_def]
  show (0 : Int) < _ ↔ _
  split <;> omega
theorem nsub_zero {x y : Nat} (hx : x < 2 ^ 30) (hy : y < 2 ^ 30) : nI x - nI y = 0 ↔ x = y := by
  rw [← Int32.toInt_inj, Int32.toInt_sub, nI_toInt (by omega), nI_toInt (by omega), Int.bmod_def]
  show _ = (0 : Int) ↔ _
  split <;> omega
/-- how the rule a compares with b -/
def cmpv (s : Nat → Int32) (a b : Nat) : Int32 := if nI (dep s (scN s b)) - nI (dep s (scN s a)) = 0 then (if s (23 + 20 * a + 2) = s (23 + 20 * b + 2) then s (23 + 20 * b + 3) - s (23 + 20 * a + 3) else s (23 + 20 * b + 2) - s (23 + 20 * a + 2)) else nI (dep s (scN s b)) - nI (dep s (scN s a))
theorem cmp_abv {s : Nat → Int32} {n rr ww a b : Nat} (h : WFS s n rr ww) (ha : a < rr) (hb : b < rr) : (cmpv s a b < 0 ↔ 0 < abv s a b) ∧ (cmpv s a b = 0 ↔ abv s b a = 0) := by
  obtain ⟨⟨a1, a2⟩, ⟨a3, a4⟩, ⟨a5, a6⟩, -⟩ := h.ru ha
  obtain ⟨⟨b1, b2⟩, ⟨b3, b4⟩, ⟨b5, b6⟩, -⟩ := h.ru hb
  have n10 := h.n10
  have d1 := dep_le s (scN s a)
  have d2 := dep_le s (scN s b)
  have e1 : scN s a < n := a2
  have e2 : scN s b < n := b2
  unfold cmpv abv
  rw [a3, b3, a5, b5]
  generalize aN s (23 + 20 * a + 2) = ra at *
  generalize aN s (23 + 20 * b + 2) = rb at *
  generalize aN s (23 + 20 * a + 3) = fa at *
  generalize aN s (23 + 20 * b + 3) = fb at *
  generalize dep s (scN s a) = da at *
  generalize dep s (scN s b) = db at *
  have z1 := nsub_zero (x := da) (y := db) (by omega) (by omega)
  have z2 := nsub_zero (x := db) (y := da) (by omega) (by omega)
  have z3 := nsub_zero (x := ra) (y := rb) (by omega) (by omega)
  have z4 := nsub_zero (x := rb) (y := ra) (by omega) (by omega)
  have z5 : nI ra = nI rb ↔ ra = rb := nI_eq (by omega) (by omega)
  by_cases hd : da = db
  · rw [if_pos (z1.mpr hd), if_pos (z2.mpr hd.symm), if_pos (z2.mpr hd.symm)]
    by_cases hr : ra = rb
    · rw [if_pos (z5.mpr hr), if_pos (z3.mpr hr), if_pos (z4.mpr hr.symm), nsub_neg (by omega) (by omega), nsub_pos (by omega) (by omega)]
      exact ⟨Iff.rfl, Iff.rfl⟩
    · rw [if_neg (fun q => hr (z5.mp q)), if_neg (fun q => hr (z3.mp q)), if_neg (fun q => hr (z4.mp q).symm), nsub_neg (by omega) (by omega), nsub_pos (by omega) (by omega)]
      exact ⟨Iff.rfl, Iff.rfl⟩
  · rw [if_neg (fun q => hd (z1.mp q)), if_neg (fun q => hd (z2.mp q).symm), if_neg (fun q => hd (z2.mp q).symm), nsub_neg (by omega) (by omega), nsub_pos (by omega) (by omega)]
    exact ⟨Iff.rfl, Iff.rfl⟩
/-- a main rule has an effect, an exemption none -/
theorem ma_eff {s : Nat → Int32} {n rr ww r : Nat} (h : WFS s n rr ww) (hr : r < rr) (g : xG) : effO g (s (23 + 20 * r + 0)) = none ↔ isMa s r = false := by
  obtain ⟨-, -, -, -, -, -, -, h8, -⟩ := h.ru hr
  have r16 := h.r16
  unfold isMa
  rcases h8 with ⟨q1, q2, q3⟩ | ⟨⟨q1, q2⟩, q3⟩
  · obtain ⟨a, ha⟩ := effO_some (g := g) (v := s (23 + 20 * r + 0)) (by rw [q2]; exact m1lt (by omega)) (Or.inr ⟨_, q3, q2⟩)
    rw [ha, q1]
    exact ⟨fun z => (by cases z), fun z => (by cases z)⟩
  · rw [q3, effO_none, q1]
    exact ⟨fun _ => decide_eq_false (m1lt (by omega)), fun _ => rfl⟩
theorem SP_X5_compared {d : Nat} {g : xG} {x lk fa ka la p n rr ww k : Nat} {Z : xAd} {s : Nat → Int32} {day feats wo : Int32} {H : Nat → Bool} (hX : xCs g x lk fa ka la p Z s n rr ww k day feats wo H) {a b : Nat} (ha : a < rr) (hb : b < rr) : XM M_X5_compared (d + 13) [.ref lk, .ref ((aR Z).getD a 0), .ref ((aR Z).getD b 0)] g (xOne (some (.int (cmpv s a b))) g) := by
  have n10 := hX.P.wf.n10
  have lc := hX.P.lc
  have ea := hX.P.ru ha
  have eb := hX.P.ru hb
  have wa := hX.P.wf.ru ha
  have wb := hX.P.wf.ru hb
  have xa := xRu_x ea
  have xb := xRu_x eb
  have a1 : xi g ((aR Z).getD a 0) 1 = nI (scN s a) := ea.2.2.1.trans wa.1.1
  have b1 : xi g ((aR Z).getD b 0) 1 = nI (scN s b) := eb.2.2.1.trans wb.1.1
  have la2 : scN s a < n := wa.1.2
  have lb2 : scN s b < n := wb.1.2
  have a2 := ea.2.2.2.1
  have a3 := ea.2.2.2.2.1
  have b2 := eb.2.2.2.1
  have b3 := eb.2.2.2.2.1
  have da := SP_X3_depth hX.P.sc hX.P.wf.o n10 (scN s a) la2 (d + 12) (by omega)
  have db := SP_X3_depth hX.P.sc hX.P.wf.o n10 (scN s b) lb2 (d + 12) (by omega)
  have ta : xtag g ((aC Z).getD (scN s a) 0) = 3 := (hX.P.sc _ la2).1
  have tb : xtag g ((aC Z).getD (scN s b) 0) = 3 := (hX.P.sc _ lb2).1
  refine xm_of (by decide +kernel) (Nat.le_of_ble_eq_true rfl) ?_
  show XW _ _ 0 [(0, _), (1, _), (2, _)] [] _ _
  refine xw_aload_n (pc := 0) dX5_compared_0 0 rfl ?_
  refine xw_getS (b := x) (pc := 1) fd_X5_3 dX5_compared_1 (by first | assumption | (simp [-List.getD_eq_getElem?_getD, xE_setI, xsz_setI, xsl_setI, xtag_setI, xown_setI, xlen_setI, xE_setR, xsz_setR, xsl_setR, xtag_setR, xown_setR, xlen_setR, xE_setW, xsz_setW, xsl_setW, xtag_setW, xown_setW, xlen_setW, xi_setR, xi_setW, xr_setI, xr_setW, xww_setI, xww_setR, xi_setI, xr_setR, xww_setW, xE_new, xsz_new, xsl_new, hX.tx, hX.xp, hX.P.tag, hX.P.f0, hX.P.f1, hX.P.f2, hX.lt, hX.l0, hX.l1, hX.l5, hX.l2, hX.l7, hX.fat, hX.kat, hX.lat, hX.kao, xa, xb, a1, b1, xsub]; done) | (simp [-List.getD_eq_getElem?_getD, xE_setI, xsz_setI, xsl_setI, xtag_setI, xown_setI, xlen_setI, xE_setR, xsz_setR, xsl_setR, xtag_setR, xown_setR, xlen_setR, xE_setW, xsz_setW, xsl_setW, xtag_setW, xown_setW, xlen_setW, xi_setR, xi_setW, xr_setI, xr_setW, xww_setI, xww_setR, xi_setI, xr_setR, xww_setW, xE_new, xsz_new, xsl_new, hX.tx, hX.xp, hX.P.tag, hX.P.f0, hX.P.f1, hX.P.f2, hX.lt, hX.l0, hX.l1, hX.l5, hX.l2, hX.l7, hX.fat, hX.kat, hX.lat, hX.kao, xa, xb, a1, b1] <;> rfl)) (by simp [-List.getD_eq_getElem?_getD, xE_setI, xsz_setI, xsl_setI, xtag_setI, xown_setI, xlen_setI, xE_setR, xsz_setR, xsl_setR, xtag_setR, xown_setR, xlen_setR, xE_setW, xsz_setW, xsl_setW, xtag_setW, xown_setW, xlen_setW, xi_setR, xi_setW, xr_setI, xr_setW, xww_setI, xww_setR, xi_setI, xr_setR, xww_setW, xE_new, xsz_new, xsl_new, hX.tx, hX.xp, hX.P.tag, hX.P.f0, hX.P.f1, hX.P.f2, hX.lt, hX.l0, hX.l1, hX.l5, hX.l2, hX.l7, hX.fat, hX.kat, hX.lat, hX.kao, xa, xb, a1, b1]) ?_
  refine xw_getS (b := p) (pc := 4) fd_X5_25 dX5_compared_4 (by first | assumption | (simp [-List.getD_eq_getElem?_getD, xE_setI, xsz_setI, xsl_setI, xtag_setI, xown_setI, xlen_setI, xE_setR, xsz_setR, xsl_setR, xtag_setR, xown_setR, xlen_setR, xE_setW, xsz_setW, xsl_setW, xtag_setW, xown_setW, xlen_setW, xi_setR, xi_setW, xr_setI, xr_setW, xww_setI, xww_setR, xi_setI, xr_setR, xww_setW, xE_new, xsz_new, xsl_new, hX.tx, hX.xp, hX.P.tag, hX.P.f0, hX.P.f1, hX.P.f2, hX.lt, hX.l0, hX.l1, hX.l5, hX.l2, hX.l7, hX.fat, hX.kat, hX.lat, hX.kao, xa, xb, a1, b1, xsub]; done) | (simp [-List.getD_eq_getElem?_getD, xE_setI, xsz_setI, xsl_setI, xtag_setI, xown_setI, xlen_setI, xE_setR, xsz_setR, xsl_setR, xtag_setR, xown_setR, xlen_setR, xE_setW, xsz_setW, xsl_setW, xtag_setW, xown_setW, xlen_setW, xi_setR, xi_setW, xr_setI, xr_setW, xww_setI, xww_setR, xi_setI, xr_setR, xww_setW, xE_new, xsz_new, xsl_new, hX.tx, hX.xp, hX.P.tag, hX.P.f0, hX.P.f1, hX.P.f2, hX.lt, hX.l0, hX.l1, hX.l5, hX.l2, hX.l7, hX.fat, hX.kat, hX.lat, hX.kao, xa, xb, a1, b1] <;> rfl)) (by simp [-List.getD_eq_getElem?_getD, xE_setI, xsz_setI, xsl_setI, xtag_setI, xown_setI, xlen_setI, xE_setR, xsz_setR, xsl_setR, xtag_setR, xown_setR, xlen_setR, xE_setW, xsz_setW, xsl_setW, xtag_setW, xown_setW, xlen_setW, xi_setR, xi_setW, xr_setI, xr_setW, xww_setI, xww_setR, xi_setI, xr_setR, xww_setW, xE_new, xsz_new, xsl_new, hX.tx, hX.xp, hX.P.tag, hX.P.f0, hX.P.f1, hX.P.f2, hX.lt, hX.l0, hX.l1, hX.l5, hX.l2, hX.l7, hX.fat, hX.kat, hX.lat, hX.kao, xa, xb, a1, b1]) ?_
  refine xw_getS (b := (aL Z 0)) (pc := 7) fd_X5_29 dX5_compared_7 (by first | assumption | (simp [-List.getD_eq_getElem?_getD, xE_setI, xsz_setI, xsl_setI, xtag_setI, xown_setI, xlen_setI, xE_setR, xsz_setR, xsl_setR, xtag_setR, xown_setR, xlen_setR, xE_setW, xsz_setW, xsl_setW, xtag_setW, xown_setW, xlen_setW, xi_setR, xi_setW, xr_setI, xr_setW, xww_setI, xww_setR, xi_setI, xr_setR, xww_setW, xE_new, xsz_new, xsl_new, hX.tx, hX.xp, hX.P.tag, hX.P.f0, hX.P.f1, hX.P.f2, hX.lt, hX.l0, hX.l1, hX.l5, hX.l2, hX.l7, hX.fat, hX.kat, hX.lat, hX.kao, xa, xb, a1, b1, xsub]; done) | (simp [-List.getD_eq_getElem?_getD, xE_setI, xsz_setI, xsl_setI, xtag_setI, xown_setI, xlen_setI, xE_setR, xsz_setR, xsl_setR, xtag_setR, xown_setR, xlen_setR, xE_setW, xsz_setW, xsl_setW, xtag_setW, xown_setW, xlen_setW, xi_setR, xi_setW, xr_setI, xr_setW, xww_setI, xww_setR, xi_setI, xr_setR, xww_setW, xE_new, xsz_new, xsl_new, hX.tx, hX.xp, hX.P.tag, hX.P.f0, hX.P.f1, hX.P.f2, hX.lt, hX.l0, hX.l1, hX.l5, hX.l2, hX.l7, hX.fat, hX.kat, hX.lat, hX.kao, xa, xb, a1, b1] <;> rfl)) (by simp [-List.getD_eq_getElem?_getD, xE_setI, xsz_setI, xsl_setI, xtag_setI, xown_setI, xlen_setI, xE_setR, xsz_setR, xsl_setR, xtag_setR, xown_setR, xlen_setR, xE_setW, xsz_setW, xsl_setW, xtag_setW, xown_setW, xlen_setW, xi_setR, xi_setW, xr_setI, xr_setW, xww_setI, xww_setR, xi_setI, xr_setR, xww_setW, xE_new, xsz_new, xsl_new, hX.tx, hX.xp, hX.P.tag, hX.P.f0, hX.P.f1, hX.P.f2, hX.lt, hX.l0, hX.l1, hX.l5, hX.l2, hX.l7, hX.fat, hX.kat, hX.lat, hX.kao, xa, xb, a1, b1]) ?_
  refine xw_aload_n (pc := 10) dX5_compared_10 2 rfl ?_
  refine xw_getNat (k := (scN s b)) (pc := 11) fd_X5_77 dX5_compared_11 (by first | assumption | (simp [-List.getD_eq_getElem?_getD, xE_setI, xsz_setI, xsl_setI, xtag_setI, xown_setI, xlen_setI, xE_setR, xsz_setR, xsl_setR, xtag_setR, xown_setR, xlen_setR, xE_setW, xsz_setW, xsl_setW, xtag_setW, xown_setW, xlen_setW, xi_setR, xi_setW, xr_setI, xr_setW, xww_setI, xww_setR, xi_setI, xr_setR, xww_setW, xE_new, xsz_new, xsl_new, hX.tx, hX.xp, hX.P.tag, hX.P.f0, hX.P.f1, hX.P.f2, hX.lt, hX.l0, hX.l1, hX.l5, hX.l2, hX.l7, hX.fat, hX.kat, hX.lat, hX.kao, xa, xb, a1, b1, xsub]; done) | (simp [-List.getD_eq_getElem?_getD, xE_setI, xsz_setI, xsl_setI, xtag_setI, xown_setI, xlen_setI, xE_setR, xsz_setR, xsl_setR, xtag_setR, xown_setR, xlen_setR, xE_setW, xsz_setW, xsl_setW, xtag_setW, xown_setW, xlen_setW, xi_setR, xi_setW, xr_setI, xr_setW, xww_setI, xww_setR, xi_setI, xr_setR, xww_setW, xE_new, xsz_new, xsl_new, hX.tx, hX.xp, hX.P.tag, hX.P.f0, hX.P.f1, hX.P.f2, hX.lt, hX.l0, hX.l1, hX.l5, hX.l2, hX.l7, hX.fat, hX.kat, hX.lat, hX.kao, xa, xb, a1, b1] <;> rfl)) (by simp [-List.getD_eq_getElem?_getD, xE_setI, xsz_setI, xsl_setI, xtag_setI, xown_setI, xlen_setI, xE_setR, xsz_setR, xsl_setR, xtag_setR, xown_setR, xlen_setR, xE_setW, xsz_setW, xsl_setW, xtag_setW, xown_setW, xlen_setW, xi_setR, xi_setW, xr_setI, xr_setW, xww_setI, xww_setR, xi_setI, xr_setR, xww_setW, xE_new, xsz_new, xsl_new, hX.tx, hX.xp, hX.P.tag, hX.P.f0, hX.P.f1, hX.P.f2, hX.lt, hX.l0, hX.l1, hX.l5, hX.l2, hX.l7, hX.fat, hX.kat, hX.lat, hX.kao, xa, xb, a1, b1]) ?_
  refine xw_callV (pc := 14) (xr_V (as := [_]) ok_J2_get rfl (by decide) q740 q706 q707 (by rw [hX.P.l0.1]; rfl) (by rw [hX.P.l0.1]; rfl) dX5_compared_14 rfl rfl (Nat.le_of_ble_eq_true rfl)) (SP_J2_get hX.P.l0 (scN s b) (by omega)) ?_
  refine xw_chkS (pc := 17) dX5_compared_17 (by rw [tb]; exact q741) (by rw [tb]; rfl) ?_
  refine xw_callV (pc := 20) (xr_V (as := []) ok_X3_depth rfl (by decide) q851 q852 q853 (by rw [tb]; rfl) (by rw [tb]; rfl) dX5_compared_20 rfl rfl (Nat.le_of_ble_eq_true rfl)) (db) ?_
  refine xw_aload_n (pc := 23) dX5_compared_23 0 rfl ?_
  refine xw_getS (b := x) (pc := 24) fd_X5_3 dX5_compared_24 (by first | assumption | (simp [-List.getD_eq_getElem?_getD, xE_setI, xsz_setI, xsl_setI, xtag_setI, xown_setI, xlen_setI, xE_setR, xsz_setR, xsl_setR, xtag_setR, xown_setR, xlen_setR, xE_setW, xsz_setW, xsl_setW, xtag_setW, xown_setW, xlen_setW, xi_setR, xi_setW, xr_setI, xr_setW, xww_setI, xww_setR, xi_setI, xr_setR, xww_setW, xE_new, xsz_new, xsl_new, hX.tx, hX.xp, hX.P.tag, hX.P.f0, hX.P.f1, hX.P.f2, hX.lt, hX.l0, hX.l1, hX.l5, hX.l2, hX.l7, hX.fat, hX.kat, hX.lat, hX.kao, xa, xb, a1, b1, xsub]; done) | (simp [-List.getD_eq_getElem?_getD, xE_setI, xsz_setI, xsl_setI, xtag_setI, xown_setI, xlen_setI, xE_setR, xsz_setR, xsl_setR, xtag_setR, xown_setR, xlen_setR, xE_setW, xsz_setW, xsl_setW, xtag_setW, xown_setW, xlen_setW, xi_setR, xi_setW, xr_setI, xr_setW, xww_setI, xww_setR, xi_setI, xr_setR, xww_setW, xE_new, xsz_new, xsl_new, hX.tx, hX.xp, hX.P.tag, hX.P.f0, hX.P.f1, hX.P.f2, hX.lt, hX.l0, hX.l1, hX.l5, hX.l2, hX.l7, hX.fat, hX.kat, hX.lat, hX.kao, xa, xb, a1, b1] <;> rfl)) (by simp [-List.getD_eq_getElem?_getD, xE_setI, xsz_setI, xsl_setI, xtag_setI, xown_setI, xlen_setI, xE_setR, xsz_setR, xsl_setR, xtag_setR, xown_setR, xlen_setR, xE_setW, xsz_setW, xsl_setW, xtag_setW, xown_setW, xlen_setW, xi_setR, xi_setW, xr_setI, xr_setW, xww_setI, xww_setR, xi_setI, xr_setR, xww_setW, xE_new, xsz_new, xsl_new, hX.tx, hX.xp, hX.P.tag, hX.P.f0, hX.P.f1, hX.P.f2, hX.lt, hX.l0, hX.l1, hX.l5, hX.l2, hX.l7, hX.fat, hX.kat, hX.lat, hX.kao, xa, xb, a1, b1]) ?_
  refine xw_getS (b := p) (pc := 27) fd_X5_25 dX5_compared_27 (by first | assumption | (simp [-List.getD_eq_getElem?_getD, xE_setI, xsz_setI, xsl_setI, xtag_setI, xown_setI, xlen_setI, xE_setR, xsz_setR, xsl_setR, xtag_setR, xown_setR, xlen_setR, xE_setW, xsz_setW, xsl_setW, xtag_setW, xown_setW, xlen_setW, xi_setR, xi_setW, xr_setI, xr_setW, xww_setI, xww_setR, xi_setI, xr_setR, xww_setW, xE_new, xsz_new, xsl_new, hX.tx, hX.xp, hX.P.tag, hX.P.f0, hX.P.f1, hX.P.f2, hX.lt, hX.l0, hX.l1, hX.l5, hX.l2, hX.l7, hX.fat, hX.kat, hX.lat, hX.kao, xa, xb, a1, b1, xsub]; done) | (simp [-List.getD_eq_getElem?_getD, xE_setI, xsz_setI, xsl_setI, xtag_setI, xown_setI, xlen_setI, xE_setR, xsz_setR, xsl_setR, xtag_setR, xown_setR, xlen_setR, xE_setW, xsz_setW, xsl_setW, xtag_setW, xown_setW, xlen_setW, xi_setR, xi_setW, xr_setI, xr_setW, xww_setI, xww_setR, xi_setI, xr_setR, xww_setW, xE_new, xsz_new, xsl_new, hX.tx, hX.xp, hX.P.tag, hX.P.f0, hX.P.f1, hX.P.f2, hX.lt, hX.l0, hX.l1, hX.l5, hX.l2, hX.l7, hX.fat, hX.kat, hX.lat, hX.kao, xa, xb, a1, b1] <;> rfl)) (by simp [-List.getD_eq_getElem?_getD, xE_setI, xsz_setI, xsl_setI, xtag_setI, xown_setI, xlen_setI, xE_setR, xsz_setR, xsl_setR, xtag_setR, xown_setR, xlen_setR, xE_setW, xsz_setW, xsl_setW, xtag_setW, xown_setW, xlen_setW, xi_setR, xi_setW, xr_setI, xr_setW, xww_setI, xww_setR, xi_setI, xr_setR, xww_setW, xE_new, xsz_new, xsl_new, hX.tx, hX.xp, hX.P.tag, hX.P.f0, hX.P.f1, hX.P.f2, hX.lt, hX.l0, hX.l1, hX.l5, hX.l2, hX.l7, hX.fat, hX.kat, hX.lat, hX.kao, xa, xb, a1, b1]) ?_
  refine xw_getS (b := (aL Z 0)) (pc := 30) fd_X5_29 dX5_compared_30 (by first | assumption | (simp [-List.getD_eq_getElem?_getD, xE_setI, xsz_setI, xsl_setI, xtag_setI, xown_setI, xlen_setI, xE_setR, xsz_setR, xsl_setR, xtag_setR, xown_setR, xlen_setR, xE_setW, xsz_setW, xsl_setW, xtag_setW, xown_setW, xlen_setW, xi_setR, xi_setW, xr_setI, xr_setW, xww_setI, xww_setR, xi_setI, xr_setR, xww_setW, xE_new, xsz_new, xsl_new, hX.tx, hX.xp, hX.P.tag, hX.P.f0, hX.P.f1, hX.P.f2, hX.lt, hX.l0, hX.l1, hX.l5, hX.l2, hX.l7, hX.fat, hX.kat, hX.lat, hX.kao, xa, xb, a1, b1, xsub]; done) | (simp [-List.getD_eq_getElem?_getD, xE_setI, xsz_setI, xsl_setI, xtag_setI, xown_setI, xlen_setI, xE_setR, xsz_setR, xsl_setR, xtag_setR, xown_setR, xlen_setR, xE_setW, xsz_setW, xsl_setW, xtag_setW, xown_setW, xlen_setW, xi_setR, xi_setW, xr_setI, xr_setW, xww_setI, xww_setR, xi_setI, xr_setR, xww_setW, xE_new, xsz_new, xsl_new, hX.tx, hX.xp, hX.P.tag, hX.P.f0, hX.P.f1, hX.P.f2, hX.lt, hX.l0, hX.l1, hX.l5, hX.l2, hX.l7, hX.fat, hX.kat, hX.lat, hX.kao, xa, xb, a1, b1] <;> rfl)) (by simp [-List.getD_eq_getElem?_getD, xE_setI, xsz_setI, xsl_setI, xtag_setI, xown_setI, xlen_setI, xE_setR, xsz_setR, xsl_setR, xtag_setR, xown_setR, xlen_setR, xE_setW, xsz_setW, xsl_setW, xtag_setW, xown_setW, xlen_setW, xi_setR, xi_setW, xr_setI, xr_setW, xww_setI, xww_setR, xi_setI, xr_setR, xww_setW, xE_new, xsz_new, xsl_new, hX.tx, hX.xp, hX.P.tag, hX.P.f0, hX.P.f1, hX.P.f2, hX.lt, hX.l0, hX.l1, hX.l5, hX.l2, hX.l7, hX.fat, hX.kat, hX.lat, hX.kao, xa, xb, a1, b1]) ?_
  refine xw_aload_n (pc := 33) dX5_compared_33 1 rfl ?_
  refine xw_getNat (k := (scN s a)) (pc := 34) fd_X5_77 dX5_compared_34 (by first | assumption | (simp [-List.getD_eq_getElem?_getD, xE_setI, xsz_setI, xsl_setI, xtag_setI, xown_setI, xlen_setI, xE_setR, xsz_setR, xsl_setR, xtag_setR, xown_setR, xlen_setR, xE_setW, xsz_setW, xsl_setW, xtag_setW, xown_setW, xlen_setW, xi_setR, xi_setW, xr_setI, xr_setW, xww_setI, xww_setR, xi_setI, xr_setR, xww_setW, xE_new, xsz_new, xsl_new, hX.tx, hX.xp, hX.P.tag, hX.P.f0, hX.P.f1, hX.P.f2, hX.lt, hX.l0, hX.l1, hX.l5, hX.l2, hX.l7, hX.fat, hX.kat, hX.lat, hX.kao, xa, xb, a1, b1, xsub]; done) | (simp [-List.getD_eq_getElem?_getD, xE_setI, xsz_setI, xsl_setI, xtag_setI, xown_setI, xlen_setI, xE_setR, xsz_setR, xsl_setR, xtag_setR, xown_setR, xlen_setR, xE_setW, xsz_setW, xsl_setW, xtag_setW, xown_setW, xlen_setW, xi_setR, xi_setW, xr_setI, xr_setW, xww_setI, xww_setR, xi_setI, xr_setR, xww_setW, xE_new, xsz_new, xsl_new, hX.tx, hX.xp, hX.P.tag, hX.P.f0, hX.P.f1, hX.P.f2, hX.lt, hX.l0, hX.l1, hX.l5, hX.l2, hX.l7, hX.fat, hX.kat, hX.lat, hX.kao, xa, xb, a1, b1] <;> rfl)) (by simp [-List.getD_eq_getElem?_getD, xE_setI, xsz_setI, xsl_setI, xtag_setI, xown_setI, xlen_setI, xE_setR, xsz_setR, xsl_setR, xtag_setR, xown_setR, xlen_setR, xE_setW, xsz_setW, xsl_setW, xtag_setW, xown_setW, xlen_setW, xi_setR, xi_setW, xr_setI, xr_setW, xww_setI, xww_setR, xi_setI, xr_setR, xww_setW, xE_new, xsz_new, xsl_new, hX.tx, hX.xp, hX.P.tag, hX.P.f0, hX.P.f1, hX.P.f2, hX.lt, hX.l0, hX.l1, hX.l5, hX.l2, hX.l7, hX.fat, hX.kat, hX.lat, hX.kao, xa, xb, a1, b1]) ?_
  refine xw_callV (pc := 37) (xr_V (as := [_]) ok_J2_get rfl (by decide) q740 q706 q707 (by rw [hX.P.l0.1]; rfl) (by rw [hX.P.l0.1]; rfl) dX5_compared_37 rfl rfl (Nat.le_of_ble_eq_true rfl)) (SP_J2_get hX.P.l0 (scN s a) (by omega)) ?_
  refine xw_chkS (pc := 40) dX5_compared_40 (by rw [ta]; exact q741) (by rw [ta]; rfl) ?_
  refine xw_callV (pc := 43) (xr_V (as := []) ok_X3_depth rfl (by decide) q851 q852 q853 (by rw [ta]; rfl) (by rw [ta]; rfl) dX5_compared_43 rfl rfl (Nat.le_of_ble_eq_true rfl)) (da) ?_
  refine xw_isub (pc := 46) dX5_compared_46 ?_
  refine xw_istore_n (l' := [(3, _), (0, _), (1, _), (2, _)]) (pc := 47) dX5_compared_47 rfl (by decide) rfl ?_
  refine xw_iload_n (pc := 48) dX5_compared_48 0 rfl ?_
  refine xw_if_eq (pc := 49) 54 dX5_compared_49 rfl (fun hb49 => ?_) (fun hb49 => ?_)
  · refine xw_aload_n (pc := 54) dX5_compared_54 2 rfl ?_
    refine xw_getI (pc := 55) fd_X5_112 dX5_compared_55 (by first | assumption | (simp [-List.getD_eq_getElem?_getD, xE_setI, xsz_setI, xsl_setI, xtag_setI, xown_setI, xlen_setI, xE_setR, xsz_setR, xsl_setR, xtag_setR, xown_setR, xlen_setR, xE_setW, xsz_setW, xsl_setW, xtag_setW, xown_setW, xlen_setW, xi_setR, xi_setW, xr_setI, xr_setW, xww_setI, xww_setR, xi_setI, xr_setR, xww_setW, xE_new, xsz_new, xsl_new, hX.tx, hX.xp, hX.P.tag, hX.P.f0, hX.P.f1, hX.P.f2, hX.lt, hX.l0, hX.l1, hX.l5, hX.l2, hX.l7, hX.fat, hX.kat, hX.lat, hX.kao, xa, xb, a1, b1, xsub]; done) | (simp [-List.getD_eq_getElem?_getD, xE_setI, xsz_setI, xsl_setI, xtag_setI, xown_setI, xlen_setI, xE_setR, xsz_setR, xsl_setR, xtag_setR, xown_setR, xlen_setR, xE_setW, xsz_setW, xsl_setW, xtag_setW, xown_setW, xlen_setW, xi_setR, xi_setW, xr_setI, xr_setW, xww_setI, xww_setR, xi_setI, xr_setR, xww_setW, xE_new, xsz_new, xsl_new, hX.tx, hX.xp, hX.P.tag, hX.P.f0, hX.P.f1, hX.P.f2, hX.lt, hX.l0, hX.l1, hX.l5, hX.l2, hX.l7, hX.fat, hX.kat, hX.lat, hX.kao, xa, xb, a1, b1] <;> rfl)) ?_
    rw [a2]
    refine xw_aload_n (pc := 58) dX5_compared_58 3 rfl ?_
    refine xw_getI (pc := 59) fd_X5_112 dX5_compared_59 (by first | assumption | (simp [-List.getD_eq_getElem?_getD, xE_setI, xsz_setI, xsl_setI, xtag_setI, xown_setI, xlen_setI, xE_setR, xsz_setR, xsl_setR, xtag_setR, xown_setR, xlen_setR, xE_setW, xsz_setW, xsl_setW, xtag_setW, xown_setW, xlen_setW, xi_setR, xi_setW, xr_setI, xr_setW, xww_setI, xww_setR, xi_setI, xr_setR, xww_setW, xE_new, xsz_new, xsl_new, hX.tx, hX.xp, hX.P.tag, hX.P.f0, hX.P.f1, hX.P.f2, hX.lt, hX.l0, hX.l1, hX.l5, hX.l2, hX.l7, hX.fat, hX.kat, hX.lat, hX.kao, xa, xb, a1, b1, xsub]; done) | (simp [-List.getD_eq_getElem?_getD, xE_setI, xsz_setI, xsl_setI, xtag_setI, xown_setI, xlen_setI, xE_setR, xsz_setR, xsl_setR, xtag_setR, xown_setR, xlen_setR, xE_setW, xsz_setW, xsl_setW, xtag_setW, xown_setW, xlen_setW, xi_setR, xi_setW, xr_setI, xr_setW, xww_setI, xww_setR, xi_setI, xr_setR, xww_setW, xE_new, xsz_new, xsl_new, hX.tx, hX.xp, hX.P.tag, hX.P.f0, hX.P.f1, hX.P.f2, hX.lt, hX.l0, hX.l1, hX.l5, hX.l2, hX.l7, hX.fat, hX.kat, hX.lat, hX.kao, xa, xb, a1, b1] <;> rfl)) ?_
    rw [b2]
    refine xw_icmp_eq (pc := 62) 77 dX5_compared_62 rfl (fun hb62 => ?_) (fun hb62 => ?_)
    · skip
      refine xw_aload_n (pc := 77) dX5_compared_77 3 rfl ?_
      refine xw_getI (pc := 78) fd_X5_115 dX5_compared_78 (by first | assumption | (simp [-List.getD_eq_getElem?_getD, xE_setI, xsz_setI, xsl_setI, xtag_setI, xown_setI, xlen_setI, xE_setR, xsz_setR, xsl_setR, xtag_setR, xown_setR, xlen_setR, xE_setW, xsz_setW, xsl_setW, xtag_setW, xown_setW, xlen_setW, xi_setR, xi_setW, xr_setI, xr_setW, xww_setI, xww_setR, xi_setI, xr_setR, xww_setW, xE_new, xsz_new, xsl_new, hX.tx, hX.xp, hX.P.tag, hX.P.f0, hX.P.f1, hX.P.f2, hX.lt, hX.l0, hX.l1, hX.l5, hX.l2, hX.l7, hX.fat, hX.kat, hX.lat, hX.kao, xa, xb, a1, b1, xsub]; done) | (simp [-List.getD_eq_getElem?_getD, xE_setI, xsz_setI, xsl_setI, xtag_setI, xown_setI, xlen_setI, xE_setR, xsz_setR, xsl_setR, xtag_setR, xown_setR, xlen_setR, xE_setW, xsz_setW, xsl_setW, xtag_setW, xown_setW, xlen_setW, xi_setR, xi_setW, xr_setI, xr_setW, xww_setI, xww_setR, xi_setI, xr_setR, xww_setW, xE_new, xsz_new, xsl_new, hX.tx, hX.xp, hX.P.tag, hX.P.f0, hX.P.f1, hX.P.f2, hX.lt, hX.l0, hX.l1, hX.l5, hX.l2, hX.l7, hX.fat, hX.kat, hX.lat, hX.kao, xa, xb, a1, b1] <;> rfl)) ?_
      refine xw_aload_n (pc := 81) dX5_compared_81 2 rfl ?_
      refine xw_getI (pc := 82) fd_X5_115 dX5_compared_82 (by first | assumption | (simp [-List.getD_eq_getElem?_getD, xE_setI, xsz_setI, xsl_setI, xtag_setI, xown_setI, xlen_setI, xE_setR, xsz_setR, xsl_setR, xtag_setR, xown_setR, xlen_setR, xE_setW, xsz_setW, xsl_setW, xtag_setW, xown_setW, xlen_setW, xi_setR, xi_setW, xr_setI, xr_setW, xww_setI, xww_setR, xi_setI, xr_setR, xww_setW, xE_new, xsz_new, xsl_new, hX.tx, hX.xp, hX.P.tag, hX.P.f0, hX.P.f1, hX.P.f2, hX.lt, hX.l0, hX.l1, hX.l5, hX.l2, hX.l7, hX.fat, hX.kat, hX.lat, hX.kao, xa, xb, a1, b1, xsub]; done) | (simp [-List.getD_eq_getElem?_getD, xE_setI, xsz_setI, xsl_setI, xtag_setI, xown_setI, xlen_setI, xE_setR, xsz_setR, xsl_setR, xtag_setR, xown_setR, xlen_setR, xE_setW, xsz_setW, xsl_setW, xtag_setW, xown_setW, xlen_setW, xi_setR, xi_setW, xr_setI, xr_setW, xww_setI, xww_setR, xi_setI, xr_setR, xww_setW, xE_new, xsz_new, xsl_new, hX.tx, hX.xp, hX.P.tag, hX.P.f0, hX.P.f1, hX.P.f2, hX.lt, hX.l0, hX.l1, hX.l5, hX.l2, hX.l7, hX.fat, hX.kat, hX.lat, hX.kao, xa, xb, a1, b1] <;> rfl)) ?_
      refine xw_isub (pc := 85) dX5_compared_85 ?_
      refine xw_iret (pc := 86) .int dX5_compared_86 rfl ?_ 
      refine ⟨congrArg (fun x => Sum.inl (some (Value.int x))) ?_, rfl⟩
      unfold cmpv
      first
      | (rw [if_neg hb49])
      | (rw [if_pos hb49, if_pos hb62, ← a3, ← b3])
      | (rw [if_pos hb49, if_neg hb62, ← a2, ← b2])
    · refine xw_aload_n (pc := 65) dX5_compared_65 3 rfl ?_
      refine xw_getI (pc := 66) fd_X5_112 dX5_compared_66 (by first | assumption | (simp [-List.getD_eq_getElem?_getD, xE_setI, xsz_setI, xsl_setI, xtag_setI, xown_setI, xlen_setI, xE_setR, xsz_setR, xsl_setR, xtag_setR, xown_setR, xlen_setR, xE_setW, xsz_setW, xsl_setW, xtag_setW, xown_setW, xlen_setW, xi_setR, xi_setW, xr_setI, xr_setW, xww_setI, xww_setR, xi_setI, xr_setR, xww_setW, xE_new, xsz_new, xsl_new, hX.tx, hX.xp, hX.P.tag, hX.P.f0, hX.P.f1, hX.P.f2, hX.lt, hX.l0, hX.l1, hX.l5, hX.l2, hX.l7, hX.fat, hX.kat, hX.lat, hX.kao, xa, xb, a1, b1, xsub]; done) | (simp [-List.getD_eq_getElem?_getD, xE_setI, xsz_setI, xsl_setI, xtag_setI, xown_setI, xlen_setI, xE_setR, xsz_setR, xsl_setR, xtag_setR, xown_setR, xlen_setR, xE_setW, xsz_setW, xsl_setW, xtag_setW, xown_setW, xlen_setW, xi_setR, xi_setW, xr_setI, xr_setW, xww_setI, xww_setR, xi_setI, xr_setR, xww_setW, xE_new, xsz_new, xsl_new, hX.tx, hX.xp, hX.P.tag, hX.P.f0, hX.P.f1, hX.P.f2, hX.lt, hX.l0, hX.l1, hX.l5, hX.l2, hX.l7, hX.fat, hX.kat, hX.lat, hX.kao, xa, xb, a1, b1] <;> rfl)) ?_
      refine xw_aload_n (pc := 69) dX5_compared_69 2 rfl ?_
      refine xw_getI (pc := 70) fd_X5_112 dX5_compared_70 (by first | assumption | (simp [-List.getD_eq_getElem?_getD, xE_setI, xsz_setI, xsl_setI, xtag_setI, xown_setI, xlen_setI, xE_setR, xsz_setR, xsl_setR, xtag_setR, xown_setR, xlen_setR, xE_setW, xsz_setW, xsl_setW, xtag_setW, xown_setW, xlen_setW, xi_setR, xi_setW, xr_setI, xr_setW, xww_setI, xww_setR, xi_setI, xr_setR, xww_setW, xE_new, xsz_new, xsl_new, hX.tx, hX.xp, hX.P.tag, hX.P.f0, hX.P.f1, hX.P.f2, hX.lt, hX.l0, hX.l1, hX.l5, hX.l2, hX.l7, hX.fat, hX.kat, hX.lat, hX.kao, xa, xb, a1, b1, xsub]; done) | (simp [-List.getD_eq_getElem?_getD, xE_setI, xsz_setI, xsl_setI, xtag_setI, xown_setI, xlen_setI, xE_setR, xsz_setR, xsl_setR, xtag_setR, xown_setR, xlen_setR, xE_setW, xsz_setW, xsl_setW, xtag_setW, xown_setW, xlen_setW, xi_setR, xi_setW, xr_setI, xr_setW, xww_setI, xww_setR, xi_setI, xr_setR, xww_setW, xE_new, xsz_new, xsl_new, hX.tx, hX.xp, hX.P.tag, hX.P.f0, hX.P.f1, hX.P.f2, hX.lt, hX.l0, hX.l1, hX.l5, hX.l2, hX.l7, hX.fat, hX.kat, hX.lat, hX.kao, xa, xb, a1, b1] <;> rfl)) ?_
      refine xw_isub (pc := 73) dX5_compared_73 ?_
      refine xw_goto (pc := 74) 86 dX5_compared_74 rfl ?_
      refine xw_iret (pc := 86) .int dX5_compared_86 rfl ?_ 
      refine ⟨congrArg (fun x => Sum.inl (some (Value.int x))) ?_, rfl⟩
      unfold cmpv
      first
      | (rw [if_neg hb49])
      | (rw [if_pos hb49, if_pos hb62, ← a3, ← b3])
      | (rw [if_pos hb49, if_neg hb62, ← a2, ← b2])
  · refine xw_iload_n (pc := 52) dX5_compared_52 0 rfl ?_
    refine xw_iret (pc := 53) .int dX5_compared_53 rfl ?_ 
    refine ⟨congrArg (fun x => Sum.inl (some (Value.int x))) ?_, rfl⟩
    unfold cmpv
    first
    | (rw [if_neg hb49])
    | (rw [if_pos hb49, if_pos hb62, ← a3, ← b3])
    | (rw [if_pos hb49, if_neg hb62, ← a2, ← b2])

theorem lp_X5_prevailing {d : Nat} {x lk fa ka la p n rr ww k : Nat} {Z : xAd} {s : Nat → Int32} {day feats wo : Int32} {H : Nat → Bool} {g0 : xG} : ∀ (j i : Nat) (g : xG) (bo : Option Nat), rr - i < j → i ≤ rr → xCs g x lk fa ka la p Z s n rr ww k day feats wo H → xOnly ka g0 g → prvK s H i = bo → XW M_X5_prevailing (d + 46) 4 [(2, .int (nI i)), (1, xref (bo.map (fun r => (aR Z).getD r 0))), (0, .ref lk)] [] g (xVal (xref ((prvK s H rr).map (fun r => (aR Z).getD r 0))) (fun g' => xCs g' x lk fa ka la p Z s n rr ww k day feats wo H ∧ xOnly ka g0 g')) := by
  intro j
  induction j with
  | zero => intro i g bo h; omega
  | succ j ih =>
    intro i g bo hij hi2 hX hO hbo
    have r16 := hX.P.wf.r16
    have lr := hX.P.lr
    have hti : i < rr → xtag g (((aR Z).getD i 0)) = 6 ∨ xtag g (((aR Z).getD i 0)) = 7 := fun hi => (hX.P.ru hi).1
    have hef : i < rr → rEff g (((aR Z).getD i 0)) = effO g (s (23 + 20 * i + 0)) := fun hi => (hX.P.ru hi).2.2.2.2.2.2.2.2.2.2.2.2
    cases bo with
    | none =>
      show XW _ _ 4 [(2, _), (1, .null), (0, _)] [] _ _
      refine xw_iload_n (pc := 4) dX5_prevailing_4 0 rfl ?_
      refine xw_aload_n (pc := 5) dX5_prevailing_5 2 rfl ?_
      refine xw_getS (b := x) (pc := 6) fd_X5_3 dX5_prevailing_6 (by first | assumption | (simp [-List.getD_eq_getElem?_getD, xE_setI, xsz_setI, xsl_setI, xtag_setI, xown_setI, xlen_setI, xE_setR, xsz_setR, xsl_setR, xtag_setR, xown_setR, xlen_setR, xE_setW, xsz_setW, xsl_setW, xtag_setW, xown_setW, xlen_setW, xi_setR, xi_setW, xr_setI, xr_setW, xww_setI, xww_setR, xi_setI, xr_setR, xww_setW, xE_new, xsz_new, xsl_new, hX.tx, hX.xp, hX.P.tag, hX.P.f0, hX.P.f1, hX.P.f2, hX.lt, hX.l0, hX.l1, hX.l5, hX.l2, hX.l7, hX.fat, hX.kat, hX.lat, hX.kao, xsub]; done) | (simp [-List.getD_eq_getElem?_getD, xE_setI, xsz_setI, xsl_setI, xtag_setI, xown_setI, xlen_setI, xE_setR, xsz_setR, xsl_setR, xtag_setR, xown_setR, xlen_setR, xE_setW, xsz_setW, xsl_setW, xtag_setW, xown_setW, xlen_setW, xi_setR, xi_setW, xr_setI, xr_setW, xww_setI, xww_setR, xi_setI, xr_setR, xww_setW, xE_new, xsz_new, xsl_new, hX.tx, hX.xp, hX.P.tag, hX.P.f0, hX.P.f1, hX.P.f2, hX.lt, hX.l0, hX.l1, hX.l5, hX.l2, hX.l7, hX.fat, hX.kat, hX.lat, hX.kao] <;> rfl)) (by simp [-List.getD_eq_getElem?_getD, xE_setI, xsz_setI, xsl_setI, xtag_setI, xown_setI, xlen_setI, xE_setR, xsz_setR, xsl_setR, xtag_setR, xown_setR, xlen_setR, xE_setW, xsz_setW, xsl_setW, xtag_setW, xown_setW, xlen_setW, xi_setR, xi_setW, xr_setI, xr_setW, xww_setI, xww_setR, xi_setI, xr_setR, xww_setW, xE_new, xsz_new, xsl_new, hX.tx, hX.xp, hX.P.tag, hX.P.f0, hX.P.f1, hX.P.f2, hX.lt, hX.l0, hX.l1, hX.l5, hX.l2, hX.l7, hX.fat, hX.kat, hX.lat, hX.kao]) ?_
      refine xw_getS (b := p) (pc := 9) fd_X5_25 dX5_prevailing_9 (by first | assumption | (simp [-List.getD_eq_getElem?_getD, xE_setI, xsz_setI, xsl_setI, xtag_setI, xown_setI, xlen_setI, xE_setR, xsz_setR, xsl_setR, xtag_setR, xown_setR, xlen_setR, xE_setW, xsz_setW, xsl_setW, xtag_setW, xown_setW, xlen_setW, xi_setR, xi_setW, xr_setI, xr_setW, xww_setI, xww_setR, xi_setI, xr_setR, xww_setW, xE_new, xsz_new, xsl_new, hX.tx, hX.xp, hX.P.tag, hX.P.f0, hX.P.f1, hX.P.f2, hX.lt, hX.l0, hX.l1, hX.l5, hX.l2, hX.l7, hX.fat, hX.kat, hX.lat, hX.kao, xsub]; done) | (simp [-List.getD_eq_getElem?_getD, xE_setI, xsz_setI, xsl_setI, xtag_setI, xown_setI, xlen_setI, xE_setR, xsz_setR, xsl_setR, xtag_setR, xown_setR, xlen_setR, xE_setW, xsz_setW, xsl_setW, xtag_setW, xown_setW, xlen_setW, xi_setR, xi_setW, xr_setI, xr_setW, xww_setI, xww_setR, xi_setI, xr_setR, xww_setW, xE_new, xsz_new, xsl_new, hX.tx, hX.xp, hX.P.tag, hX.P.f0, hX.P.f1, hX.P.f2, hX.lt, hX.l0, hX.l1, hX.l5, hX.l2, hX.l7, hX.fat, hX.kat, hX.lat, hX.kao] <;> rfl)) (by simp [-List.getD_eq_getElem?_getD, xE_setI, xsz_setI, xsl_setI, xtag_setI, xown_setI, xlen_setI, xE_setR, xsz_setR, xsl_setR, xtag_setR, xown_setR, xlen_setR, xE_setW, xsz_setW, xsl_setW, xtag_setW, xown_setW, xlen_setW, xi_setR, xi_setW, xr_setI, xr_setW, xww_setI, xww_setR, xi_setI, xr_setR, xww_setW, xE_new, xsz_new, xsl_new, hX.tx, hX.xp, hX.P.tag, hX.P.f0, hX.P.f1, hX.P.f2, hX.lt, hX.l0, hX.l1, hX.l5, hX.l2, hX.l7, hX.fat, hX.kat, hX.lat, hX.kao]) ?_
      refine xw_getS (b := (aL Z 2)) (pc := 12) fd_X5_92 dX5_prevailing_12 (by first | assumption | (simp [-List.getD_eq_getElem?_getD, xE_setI, xsz_setI, xsl_setI, xtag_setI, xown_setI, xlen_setI, xE_setR, xsz_setR, xsl_setR, xtag_setR, xown_setR, xlen_setR, xE_setW, xsz_setW, xsl_setW, xtag_setW, xown_setW, xlen_setW, xi_setR, xi_setW, xr_setI, xr_setW, xww_setI, xww_setR, xi_setI, xr_setR, xww_setW, xE_new, xsz_new, xsl_new, hX.tx, hX.xp, hX.P.tag, hX.P.f0, hX.P.f1, hX.P.f2, hX.lt, hX.l0, hX.l1, hX.l5, hX.l2, hX.l7, hX.fat, hX.kat, hX.lat, hX.kao, xsub]; done) | (simp [-List.getD_eq_getElem?_getD, xE_setI, xsz_setI, xsl_setI, xtag_setI, xown_setI, xlen_setI, xE_setR, xsz_setR, xsl_setR, xtag_setR, xown_setR, xlen_setR, xE_setW, xsz_setW, xsl_setW, xtag_setW, xown_setW, xlen_setW, xi_setR, xi_setW, xr_setI, xr_setW, xww_setI, xww_setR, xi_setI, xr_setR, xww_setW, xE_new, xsz_new, xsl_new, hX.tx, hX.xp, hX.P.tag, hX.P.f0, hX.P.f1, hX.P.f2, hX.lt, hX.l0, hX.l1, hX.l5, hX.l2, hX.l7, hX.fat, hX.kat, hX.lat, hX.kao] <;> rfl)) (by simp [-List.getD_eq_getElem?_getD, xE_setI, xsz_setI, xsl_setI, xtag_setI, xown_setI, xlen_setI, xE_setR, xsz_setR, xsl_setR, xtag_setR, xown_setR, xlen_setR, xE_setW, xsz_setW, xsl_setW, xtag_setW, xown_setW, xlen_setW, xi_setR, xi_setW, xr_setI, xr_setW, xww_setI, xww_setR, xi_setI, xr_setR, xww_setW, xE_new, xsz_new, xsl_new, hX.tx, hX.xp, hX.P.tag, hX.P.f0, hX.P.f1, hX.P.f2, hX.lt, hX.l0, hX.l1, hX.l5, hX.l2, hX.l7, hX.fat, hX.kat, hX.lat, hX.kao]) ?_
      refine xw_callV (pc := 15) (xr_V (as := []) ok_J2_size rfl (by decide) q754 q702 q703 (by first | (rw [hX.P.l1.1]; rfl) | (rw [hc48.1.P.l1.1]; rfl)) (by first | (rw [hX.P.l1.1]; rfl) | (rw [hc48.1.P.l1.1]; rfl)) dX5_prevailing_15 rfl rfl (Nat.le_of_ble_eq_true rfl)) (SP_J2_size hX.P.l1) ?_
      refine xw_icmp_ge (pc := 18) 75 dX5_prevailing_18 rfl (fun hb18 => ?_) (fun hb18 => ?_)
      · replace hb18 : (aR Z).length ≤ i := (nI_leI (a := (aR Z).length) (b := i) (by omega) (by omega)).mp hb18
        refine xw_aload_n (pc := 75) dX5_prevailing_75 1 rfl ?_
        refine xw_aret (pc := 76) (.object "PolicyNotation$Rule") dX5_prevailing_76 rfl ?_
        have ei : i = rr := by omega
        subst ei
        exact ⟨by rw [hbo]; rfl, hX, hO⟩
      · replace hb18 : ¬ ((aR Z).length ≤ i) := mt (nI_leI (a := (aR Z).length) (b := i) (by omega) (by omega)).mpr hb18
        have hil : i < rr := by omega
        refine xw_aload_n (pc := 21) dX5_prevailing_21 2 rfl ?_
        refine xw_getS (b := x) (pc := 22) fd_X5_3 dX5_prevailing_22 (by first | assumption | (simp [-List.getD_eq_getElem?_getD, xE_setI, xsz_setI, xsl_setI, xtag_setI, xown_setI, xlen_setI, xE_setR, xsz_setR, xsl_setR, xtag_setR, xown_setR, xlen_setR, xE_setW, xsz_setW, xsl_setW, xtag_setW, xown_setW, xlen_setW, xi_setR, xi_setW, xr_setI, xr_setW, xww_setI, xww_setR, xi_setI, xr_setR, xww_setW, xE_new, xsz_new, xsl_new, hX.tx, hX.xp, hX.P.tag, hX.P.f0, hX.P.f1, hX.P.f2, hX.lt, hX.l0, hX.l1, hX.l5, hX.l2, hX.l7, hX.fat, hX.kat, hX.lat, hX.kao, xsub]; done) | (simp [-List.getD_eq_getElem?_getD, xE_setI, xsz_setI, xsl_setI, xtag_setI, xown_setI, xlen_setI, xE_setR, xsz_setR, xsl_setR, xtag_setR, xown_setR, xlen_setR, xE_setW, xsz_setW, xsl_setW, xtag_setW, xown_setW, xlen_setW, xi_setR, xi_setW, xr_setI, xr_setW, xww_setI, xww_setR, xi_setI, xr_setR, xww_setW, xE_new, xsz_new, xsl_new, hX.tx, hX.xp, hX.P.tag, hX.P.f0, hX.P.f1, hX.P.f2, hX.lt, hX.l0, hX.l1, hX.l5, hX.l2, hX.l7, hX.fat, hX.kat, hX.lat, hX.kao] <;> rfl)) (by simp [-List.getD_eq_getElem?_getD, xE_setI, xsz_setI, xsl_setI, xtag_setI, xown_setI, xlen_setI, xE_setR, xsz_setR, xsl_setR, xtag_setR, xown_setR, xlen_setR, xE_setW, xsz_setW, xsl_setW, xtag_setW, xown_setW, xlen_setW, xi_setR, xi_setW, xr_setI, xr_setW, xww_setI, xww_setR, xi_setI, xr_setR, xww_setW, xE_new, xsz_new, xsl_new, hX.tx, hX.xp, hX.P.tag, hX.P.f0, hX.P.f1, hX.P.f2, hX.lt, hX.l0, hX.l1, hX.l5, hX.l2, hX.l7, hX.fat, hX.kat, hX.lat, hX.kao]) ?_
        refine xw_getS (b := p) (pc := 25) fd_X5_25 dX5_prevailing_25 (by first | assumption | (simp [-List.getD_eq_getElem?_getD, xE_setI, xsz_setI, xsl_setI, xtag_setI, xown_setI, xlen_setI, xE_setR, xsz_setR, xsl_setR, xtag_setR, xown_setR, xlen_setR, xE_setW, xsz_setW, xsl_setW, xtag_setW, xown_setW, xlen_setW, xi_setR, xi_setW, xr_setI, xr_setW, xww_setI, xww_setR, xi_setI, xr_setR, xww_setW, xE_new, xsz_new, xsl_new, hX.tx, hX.xp, hX.P.tag, hX.P.f0, hX.P.f1, hX.P.f2, hX.lt, hX.l0, hX.l1, hX.l5, hX.l2, hX.l7, hX.fat, hX.kat, hX.lat, hX.kao, xsub]; done) | (simp [-List.getD_eq_getElem?_getD, xE_setI, xsz_setI, xsl_setI, xtag_setI, xown_setI, xlen_setI, xE_setR, xsz_setR, xsl_setR, xtag_setR, xown_setR, xlen_setR, xE_setW, xsz_setW, xsl_setW, xtag_setW, xown_setW, xlen_setW, xi_setR, xi_setW, xr_setI, xr_setW, xww_setI, xww_setR, xi_setI, xr_setR, xww_setW, xE_new, xsz_new, xsl_new, hX.tx, hX.xp, hX.P.tag, hX.P.f0, hX.P.f1, hX.P.f2, hX.lt, hX.l0, hX.l1, hX.l5, hX.l2, hX.l7, hX.fat, hX.kat, hX.lat, hX.kao] <;> rfl)) (by simp [-List.getD_eq_getElem?_getD, xE_setI, xsz_setI, xsl_setI, xtag_setI, xown_setI, xlen_setI, xE_setR, xsz_setR, xsl_setR, xtag_setR, xown_setR, xlen_setR, xE_setW, xsz_setW, xsl_setW, xtag_setW, xown_setW, xlen_setW, xi_setR, xi_setW, xr_setI, xr_setW, xww_setI, xww_setR, xi_setI, xr_setR, xww_setW, xE_new, xsz_new, xsl_new, hX.tx, hX.xp, hX.P.tag, hX.P.f0, hX.P.f1, hX.P.f2, hX.lt, hX.l0, hX.l1, hX.l5, hX.l2, hX.l7, hX.fat, hX.kat, hX.lat, hX.kao]) ?_
        refine xw_getS (b := (aL Z 2)) (pc := 28) fd_X5_92 dX5_prevailing_28 (by first | assumption | (simp [-List.getD_eq_getElem?_getD, xE_setI, xsz_setI, xsl_setI, xtag_setI, xown_setI, xlen_setI, xE_setR, xsz_setR, xsl_setR, xtag_setR, xown_setR, xlen_setR, xE_setW, xsz_setW, xsl_setW, xtag_setW, xown_setW, xlen_setW, xi_setR, xi_setW, xr_setI, xr_setW, xww_setI, xww_setR, xi_setI, xr_setR, xww_setW, xE_new, xsz_new, xsl_new, hX.tx, hX.xp, hX.P.tag, hX.P.f0, hX.P.f1, hX.P.f2, hX.lt, hX.l0, hX.l1, hX.l5, hX.l2, hX.l7, hX.fat, hX.kat, hX.lat, hX.kao, xsub]; done) | (simp [-List.getD_eq_getElem?_getD, xE_setI, xsz_setI, xsl_setI, xtag_setI, xown_setI, xlen_setI, xE_setR, xsz_setR, xsl_setR, xtag_setR, xown_setR, xlen_setR, xE_setW, xsz_setW, xsl_setW, xtag_setW, xown_setW, xlen_setW, xi_setR, xi_setW, xr_setI, xr_setW, xww_setI, xww_setR, xi_setI, xr_setR, xww_setW, xE_new, xsz_new, xsl_new, hX.tx, hX.xp, hX.P.tag, hX.P.f0, hX.P.f1, hX.P.f2, hX.lt, hX.l0, hX.l1, hX.l5, hX.l2, hX.l7, hX.fat, hX.kat, hX.lat, hX.kao] <;> rfl)) (by simp [-List.getD_eq_getElem?_getD, xE_setI, xsz_setI, xsl_setI, xtag_setI, xown_setI, xlen_setI, xE_setR, xsz_setR, xsl_setR, xtag_setR, xown_setR, xlen_setR, xE_setW, xsz_setW, xsl_setW, xtag_setW, xown_setW, xlen_setW, xi_setR, xi_setW, xr_setI, xr_setW, xww_setI, xww_setR, xi_setI, xr_setR, xww_setW, xE_new, xsz_new, xsl_new, hX.tx, hX.xp, hX.P.tag, hX.P.f0, hX.P.f1, hX.P.f2, hX.lt, hX.l0, hX.l1, hX.l5, hX.l2, hX.l7, hX.fat, hX.kat, hX.lat, hX.kao]) ?_
        refine xw_iload_n (pc := 31) dX5_prevailing_31 0 rfl ?_
        refine xw_callV (pc := 32) (xr_V (as := [_]) ok_J2_get rfl (by decide) q740 q706 q707 (by first | (rw [hX.P.l1.1]; rfl) | (rw [hc48.1.P.l1.1]; rfl)) (by first | (rw [hX.P.l1.1]; rfl) | (rw [hc48.1.P.l1.1]; rfl)) dX5_prevailing_32 rfl rfl (Nat.le_of_ble_eq_true rfl)) (SP_J2_get hX.P.l1 i (by rw [lr]; exact hil)) ?_
        refine xw_chkR (pc := 35) dX5_prevailing_35 q755 (by exact hti hil) ?_
        refine xw_astore_n (l' := [(3, _), (2, _), (1, _), (0, _)]) (pc := 38) dX5_prevailing_38 rfl (by decide) rfl ?_
        refine xw_aload_n (pc := 39) dX5_prevailing_39 0 rfl ?_
        refine xw_reffect (pc := 40) (hti hil) dX5_prevailing_40 q756 (Nat.le_of_ble_eq_true rfl) ?_
        rw [hef hil]
        refine xw_ifnullQ (pc := 43) 69 dX5_prevailing_43 rfl (fun hb43 => ?_) (fun b43 hb43 => ?_)
        · skip
          refine xw_iinc (v := nI (i + 1)) (l' := [(2, _), (3, _), (1, _), (0, _)]) (pc := 69) dX5_prevailing_69 1 rfl (nI_add _ 1) (by decide) rfl ?_
          refine xw_goto (pc := 72) 4 dX5_prevailing_72 rfl ?_
          refine xw_pick (pc := 4) (l' := [(2, _), (1, _), (0, _)]) [0, 2, 3] rfl ?_
          have hst : prvK s H (i + 1) = if isMa s i && (H i && (match prvK s H i with
              | none => true
              | some b => decide (0 < abv s i b))) then some i else prvK s H i := rfl
          rw [hbo] at hst
          first
          | (refine ih (i + 1) g none (by omega) (by omega) hX hO ?_
             rw [hst, (ma_eff hX.P.wf hil g).mp hb43]
             rfl)
          | (refine ih (i + 1) g48 none (by omega) (by omega) hc48.1 (hO.tr hc48.2) ?_
             rw [hst, hma, hb51]
             rfl)
          | (refine ih (i + 1) g48 (some i) (by omega) (by omega) hc48.1 (hO.tr hc48.2) ?_
             rw [hst, hma, hb51]
             first | rfl | (show (if (true && (true && decide _)) = true then _ else _) = _; rw [decide_eq_true ((cmp_abv hX.P.wf hil hbl).1.mp (Int32.not_le.mp hb64))]; rfl))
          | (refine ih (i + 1) g48 none (by omega) (by omega) hc48.1 (hO.tr hc48.2) ?_
             rw [hst, hma, hb51]
             show (if (true && (true && decide _)) = true then _ else _) = _
             rw [decide_eq_false (fun q => Int32.not_lt.mpr hb64 ((cmp_abv hX.P.wf hil hbl).1.mpr q))]
             rfl)
        · have hma : isMa s i = true := by
            cases hm9 : isMa s i with
            | true => rfl
            | false => rw [(ma_eff hX.P.wf hil g).mpr hm9] at hb43; cases hb43
          refine xw_aload_n (pc := 46) dX5_prevailing_46 3 rfl ?_
          refine xw_aload_n (pc := 47) dX5_prevailing_47 0 rfl ?_
          refine xw_callF (pc := 48) (xr_V (as := [_]) ok_X5_holds rfl (by decide) q765 q766 q767 (by first | (rw [hX.lt]; rfl) | (rw [hc48.1.lt]; rfl)) (by first | (rw [hX.lt]; rfl) | (rw [hc48.1.lt]; rfl)) dX5_prevailing_48 rfl rfl (Nat.le_of_ble_eq_true rfl)) (SP_X5_holds (d := d) hX hil) ?_
          intro g48 hc48 hm48
          refine xw_if_eq (pc := 51) 69 dX5_prevailing_51 rfl (fun hb51 => ?_) (fun hb51 => ?_)
          · replace hb51 := bI_0.mp hb51
            skip
            refine xw_iinc (v := nI (i + 1)) (l' := [(2, _), (3, _), (1, _), (0, _)]) (pc := 69) dX5_prevailing_69 1 rfl (nI_add _ 1) (by decide) rfl ?_
            refine xw_goto (pc := 72) 4 dX5_prevailing_72 rfl ?_
            refine xw_pick (pc := 4) (l' := [(2, _), (1, _), (0, _)]) [0, 2, 3] rfl ?_
            have hst : prvK s H (i + 1) = if isMa s i && (H i && (match prvK s H i with
                | none => true
                | some b => decide (0 < abv s i b))) then some i else prvK s H i := rfl
            rw [hbo] at hst
            first
            | (refine ih (i + 1) g none (by omega) (by omega) hX hO ?_
               rw [hst, (ma_eff hX.P.wf hil g).mp hb43]
               rfl)
            | (refine ih (i + 1) g48 none (by omega) (by omega) hc48.1 (hO.tr hc48.2) ?_
               rw [hst, hma, hb51]
               rfl)
            | (refine ih (i + 1) g48 (some i) (by omega) (by omega) hc48.1 (hO.tr hc48.2) ?_
               rw [hst, hma, hb51]
               first | rfl | (show (if (true && (true && decide _)) = true then _ else _) = _; rw [decide_eq_true ((cmp_abv hX.P.wf hil hbl).1.mp (Int32.not_le.mp hb64))]; rfl))
            | (refine ih (i + 1) g48 none (by omega) (by omega) hc48.1 (hO.tr hc48.2) ?_
               rw [hst, hma, hb51]
               show (if (true && (true && decide _)) = true then _ else _) = _
               rw [decide_eq_false (fun q => Int32.not_lt.mpr hb64 ((cmp_abv hX.P.wf hil hbl).1.mpr q))]
               rfl)
          · replace hb51 := bI_n0.mp hb51
            refine xw_aload_n (pc := 54) dX5_prevailing_54 2 rfl ?_
            refine xw_ifnullN (pc := 55) 67 dX5_prevailing_55 rfl ?_
            refine xw_aload_n (pc := 67) dX5_prevailing_67 0 rfl ?_
            refine xw_astore_n (l' := [(1, _), (3, _), (2, _), (0, _)]) (pc := 68) dX5_prevailing_68 rfl (by decide) rfl ?_
            skip
            refine xw_iinc (v := nI (i + 1)) (l' := [(2, _), (1, _), (3, _), (0, _)]) (pc := 69) dX5_prevailing_69 2 rfl (nI_add _ 1) (by decide) rfl ?_
            refine xw_goto (pc := 72) 4 dX5_prevailing_72 rfl ?_
            refine xw_pick (pc := 4) (l' := [(2, _), (1, _), (0, _)]) [0, 1, 3] rfl ?_
            have hst : prvK s H (i + 1) = if isMa s i && (H i && (match prvK s H i with
                | none => true
                | some b => decide (0 < abv s i b))) then some i else prvK s H i := rfl
            rw [hbo] at hst
            first
            | (refine ih (i + 1) g none (by omega) (by omega) hX hO ?_
               rw [hst, (ma_eff hX.P.wf hil g).mp hb43]
               rfl)
            | (refine ih (i + 1) g48 none (by omega) (by omega) hc48.1 (hO.tr hc48.2) ?_
               rw [hst, hma, hb51]
               rfl)
            | (refine ih (i + 1) g48 (some i) (by omega) (by omega) hc48.1 (hO.tr hc48.2) ?_
               rw [hst, hma, hb51]
               first | rfl | (show (if (true && (true && decide _)) = true then _ else _) = _; rw [decide_eq_true ((cmp_abv hX.P.wf hil hbl).1.mp (Int32.not_le.mp hb64))]; rfl))
            | (refine ih (i + 1) g48 none (by omega) (by omega) hc48.1 (hO.tr hc48.2) ?_
               rw [hst, hma, hb51]
               show (if (true && (true && decide _)) = true then _ else _) = _
               rw [decide_eq_false (fun q => Int32.not_lt.mpr hb64 ((cmp_abv hX.P.wf hil hbl).1.mpr q))]
               rfl)
    | some b =>
      have hbl : b < rr := Nat.lt_of_lt_of_le (prvK_lt hbo) hi2
      show XW _ _ 4 [(2, _), (1, .ref ((aR Z).getD b 0)), (0, _)] [] _ _
      refine xw_iload_n (pc := 4) dX5_prevailing_4 0 rfl ?_
      refine xw_aload_n (pc := 5) dX5_prevailing_5 2 rfl ?_
      refine xw_getS (b := x) (pc := 6) fd_X5_3 dX5_prevailing_6 (by first | assumption | (simp [-List.getD_eq_getElem?_getD, xE_setI, xsz_setI, xsl_setI, xtag_setI, xown_setI, xlen_setI, xE_setR, xsz_setR, xsl_setR, xtag_setR, xown_setR, xlen_setR, xE_setW, xsz_setW, xsl_setW, xtag_setW, xown_setW, xlen_setW, xi_setR, xi_setW, xr_setI, xr_setW, xww_setI, xww_setR, xi_setI, xr_setR, xww_setW, xE_new, xsz_new, xsl_new, hX.tx, hX.xp, hX.P.tag, hX.P.f0, hX.P.f1, hX.P.f2, hX.lt, hX.l0, hX.l1, hX.l5, hX.l2, hX.l7, hX.fat, hX.kat, hX.lat, hX.kao, xsub]; done) | (simp [-List.getD_eq_getElem?_getD, xE_setI, xsz_setI, xsl_setI, xtag_setI, xown_setI, xlen_setI, xE_setR, xsz_setR, xsl_setR, xtag_setR, xown_setR, xlen_setR, xE_setW, xsz_setW, xsl_setW, xtag_setW, xown_setW, xlen_setW, xi_setR, xi_setW, xr_setI, xr_setW, xww_setI, xww_setR, xi_setI, xr_setR, xww_setW, xE_new, xsz_new, xsl_new, hX.tx, hX.xp, hX.P.tag, hX.P.f0, hX.P.f1, hX.P.f2, hX.lt, hX.l0, hX.l1, hX.l5, hX.l2, hX.l7, hX.fat, hX.kat, hX.lat, hX.kao] <;> rfl)) (by simp [-List.getD_eq_getElem?_getD, xE_setI, xsz_setI, xsl_setI, xtag_setI, xown_setI, xlen_setI, xE_setR, xsz_setR, xsl_setR, xtag_setR, xown_setR, xlen_setR, xE_setW, xsz_setW, xsl_setW, xtag_setW, xown_setW, xlen_setW, xi_setR, xi_setW, xr_setI, xr_setW, xww_setI, xww_setR, xi_setI, xr_setR, xww_setW, xE_new, xsz_new, xsl_new, hX.tx, hX.xp, hX.P.tag, hX.P.f0, hX.P.f1, hX.P.f2, hX.lt, hX.l0, hX.l1, hX.l5, hX.l2, hX.l7, hX.fat, hX.kat, hX.lat, hX.kao]) ?_
      refine xw_getS (b := p) (pc := 9) fd_X5_25 dX5_prevailing_9 (by first | assumption | (simp [-List.getD_eq_getElem?_getD, xE_setI, xsz_setI, xsl_setI, xtag_setI, xown_setI, xlen_setI, xE_setR, xsz_setR, xsl_setR, xtag_setR, xown_setR, xlen_setR, xE_setW, xsz_setW, xsl_setW, xtag_setW, xown_setW, xlen_setW, xi_setR, xi_setW, xr_setI, xr_setW, xww_setI, xww_setR, xi_setI, xr_setR, xww_setW, xE_new, xsz_new, xsl_new, hX.tx, hX.xp, hX.P.tag, hX.P.f0, hX.P.f1, hX.P.f2, hX.lt, hX.l0, hX.l1, hX.l5, hX.l2, hX.l7, hX.fat, hX.kat, hX.lat, hX.kao, xsub]; done) | (simp [-List.getD_eq_getElem?_getD, xE_setI, xsz_setI, xsl_setI, xtag_setI, xown_setI, xlen_setI, xE_setR, xsz_setR, xsl_setR, xtag_setR, xown_setR, xlen_setR, xE_setW, xsz_setW, xsl_setW, xtag_setW, xown_setW, xlen_setW, xi_setR, xi_setW, xr_setI, xr_setW, xww_setI, xww_setR, xi_setI, xr_setR, xww_setW, xE_new, xsz_new, xsl_new, hX.tx, hX.xp, hX.P.tag, hX.P.f0, hX.P.f1, hX.P.f2, hX.lt, hX.l0, hX.l1, hX.l5, hX.l2, hX.l7, hX.fat, hX.kat, hX.lat, hX.kao] <;> rfl)) (by simp [-List.getD_eq_getElem?_getD, xE_setI, xsz_setI, xsl_setI, xtag_setI, xown_setI, xlen_setI, xE_setR, xsz_setR, xsl_setR, xtag_setR, xown_setR, xlen_setR, xE_setW, xsz_setW, xsl_setW, xtag_setW, xown_setW, xlen_setW, xi_setR, xi_setW, xr_setI, xr_setW, xww_setI, xww_setR, xi_setI, xr_setR, xww_setW, xE_new, xsz_new, xsl_new, hX.tx, hX.xp, hX.P.tag, hX.P.f0, hX.P.f1, hX.P.f2, hX.lt, hX.l0, hX.l1, hX.l5, hX.l2, hX.l7, hX.fat, hX.kat, hX.lat, hX.kao]) ?_
      refine xw_getS (b := (aL Z 2)) (pc := 12) fd_X5_92 dX5_prevailing_12 (by first | assumption | (simp [-List.getD_eq_getElem?_getD, xE_setI, xsz_setI, xsl_setI, xtag_setI, xown_setI, xlen_setI, xE_setR, xsz_setR, xsl_setR, xtag_setR, xown_setR, xlen_setR, xE_setW, xsz_setW, xsl_setW, xtag_setW, xown_setW, xlen_setW, xi_setR, xi_setW, xr_setI, xr_setW, xww_setI, xww_setR, xi_setI, xr_setR, xww_setW, xE_new, xsz_new, xsl_new, hX.tx, hX.xp, hX.P.tag, hX.P.f0, hX.P.f1, hX.P.f2, hX.lt, hX.l0, hX.l1, hX.l5, hX.l2, hX.l7, hX.fat, hX.kat, hX.lat, hX.kao, xsub]; done) | (simp [-List.getD_eq_getElem?_getD, xE_setI, xsz_setI, xsl_setI, xtag_setI, xown_setI, xlen_setI, xE_setR, xsz_setR, xsl_setR, xtag_setR, xown_setR, xlen_setR, xE_setW, xsz_setW, xsl_setW, xtag_setW, xown_setW, xlen_setW, xi_setR, xi_setW, xr_setI, xr_setW, xww_setI, xww_setR, xi_setI, xr_setR, xww_setW, xE_new, xsz_new, xsl_new, hX.tx, hX.xp, hX.P.tag, hX.P.f0, hX.P.f1, hX.P.f2, hX.lt, hX.l0, hX.l1, hX.l5, hX.l2, hX.l7, hX.fat, hX.kat, hX.lat, hX.kao] <;> rfl)) (by simp [-List.getD_eq_getElem?_getD, xE_setI, xsz_setI, xsl_setI, xtag_setI, xown_setI, xlen_setI, xE_setR, xsz_setR, xsl_setR, xtag_setR, xown_setR, xlen_setR, xE_setW, xsz_setW, xsl_setW, xtag_setW, xown_setW, xlen_setW, xi_setR, xi_setW, xr_setI, xr_setW, xww_setI, xww_setR, xi_setI, xr_setR, xww_setW, xE_new, xsz_new, xsl_new, hX.tx, hX.xp, hX.P.tag, hX.P.f0, hX.P.f1, hX.P.f2, hX.lt, hX.l0, hX.l1, hX.l5, hX.l2, hX.l7, hX.fat, hX.kat, hX.lat, hX.kao]) ?_
      refine xw_callV (pc := 15) (xr_V (as := []) ok_J2_size rfl (by decide) q754 q702 q703 (by first | (rw [hX.P.l1.1]; rfl) | (rw [hc48.1.P.l1.1]; rfl)) (by first | (rw [hX.P.l1.1]; rfl) | (rw [hc48.1.P.l1.1]; rfl)) dX5_prevailing_15 rfl rfl (Nat.le_of_ble_eq_true rfl)) (SP_J2_size hX.P.l1) ?_
      refine xw_icmp_ge (pc := 18) 75 dX5_prevailing_18 rfl (fun hb18 => ?_) (fun hb18 => ?_)
      · replace hb18 : (aR Z).length ≤ i := (nI_leI (a := (aR Z).length) (b := i) (by omega) (by omega)).mp hb18
        refine xw_aload_n (pc := 75) dX5_prevailing_75 1 rfl ?_
        refine xw_aret (pc := 76) (.object "PolicyNotation$Rule") dX5_prevailing_76 rfl ?_
        have ei : i = rr := by omega
        subst ei
        exact ⟨by rw [hbo]; rfl, hX, hO⟩
      · replace hb18 : ¬ ((aR Z).length ≤ i) := mt (nI_leI (a := (aR Z).length) (b := i) (by omega) (by omega)).mpr hb18
        have hil : i < rr := by omega
        refine xw_aload_n (pc := 21) dX5_prevailing_21 2 rfl ?_
        refine xw_getS (b := x) (pc := 22) fd_X5_3 dX5_prevailing_22 (by first | assumption | (simp [-List.getD_eq_getElem?_getD, xE_setI, xsz_setI, xsl_setI, xtag_setI, xown_setI, xlen_setI, xE_setR, xsz_setR, xsl_setR, xtag_setR, xown_setR, xlen_setR, xE_setW, xsz_setW, xsl_setW, xtag_setW, xown_setW, xlen_setW, xi_setR, xi_setW, xr_setI, xr_setW, xww_setI, xww_setR, xi_setI, xr_setR, xww_setW, xE_new, xsz_new, xsl_new, hX.tx, hX.xp, hX.P.tag, hX.P.f0, hX.P.f1, hX.P.f2, hX.lt, hX.l0, hX.l1, hX.l5, hX.l2, hX.l7, hX.fat, hX.kat, hX.lat, hX.kao, xsub]; done) | (simp [-List.getD_eq_getElem?_getD, xE_setI, xsz_setI, xsl_setI, xtag_setI, xown_setI, xlen_setI, xE_setR, xsz_setR, xsl_setR, xtag_setR, xown_setR, xlen_setR, xE_setW, xsz_setW, xsl_setW, xtag_setW, xown_setW, xlen_setW, xi_setR, xi_setW, xr_setI, xr_setW, xww_setI, xww_setR, xi_setI, xr_setR, xww_setW, xE_new, xsz_new, xsl_new, hX.tx, hX.xp, hX.P.tag, hX.P.f0, hX.P.f1, hX.P.f2, hX.lt, hX.l0, hX.l1, hX.l5, hX.l2, hX.l7, hX.fat, hX.kat, hX.lat, hX.kao] <;> rfl)) (by simp [-List.getD_eq_getElem?_getD, xE_setI, xsz_setI, xsl_setI, xtag_setI, xown_setI, xlen_setI, xE_setR, xsz_setR, xsl_setR, xtag_setR, xown_setR, xlen_setR, xE_setW, xsz_setW, xsl_setW, xtag_setW, xown_setW, xlen_setW, xi_setR, xi_setW, xr_setI, xr_setW, xww_setI, xww_setR, xi_setI, xr_setR, xww_setW, xE_new, xsz_new, xsl_new, hX.tx, hX.xp, hX.P.tag, hX.P.f0, hX.P.f1, hX.P.f2, hX.lt, hX.l0, hX.l1, hX.l5, hX.l2, hX.l7, hX.fat, hX.kat, hX.lat, hX.kao]) ?_
        refine xw_getS (b := p) (pc := 25) fd_X5_25 dX5_prevailing_25 (by first | assumption | (simp [-List.getD_eq_getElem?_getD, xE_setI, xsz_setI, xsl_setI, xtag_setI, xown_setI, xlen_setI, xE_setR, xsz_setR, xsl_setR, xtag_setR, xown_setR, xlen_setR, xE_setW, xsz_setW, xsl_setW, xtag_setW, xown_setW, xlen_setW, xi_setR, xi_setW, xr_setI, xr_setW, xww_setI, xww_setR, xi_setI, xr_setR, xww_setW, xE_new, xsz_new, xsl_new, hX.tx, hX.xp, hX.P.tag, hX.P.f0, hX.P.f1, hX.P.f2, hX.lt, hX.l0, hX.l1, hX.l5, hX.l2, hX.l7, hX.fat, hX.kat, hX.lat, hX.kao, xsub]; done) | (simp [-List.getD_eq_getElem?_getD, xE_setI, xsz_setI, xsl_setI, xtag_setI, xown_setI, xlen_setI, xE_setR, xsz_setR, xsl_setR, xtag_setR, xown_setR, xlen_setR, xE_setW, xsz_setW, xsl_setW, xtag_setW, xown_setW, xlen_setW, xi_setR, xi_setW, xr_setI, xr_setW, xww_setI, xww_setR, xi_setI, xr_setR, xww_setW, xE_new, xsz_new, xsl_new, hX.tx, hX.xp, hX.P.tag, hX.P.f0, hX.P.f1, hX.P.f2, hX.lt, hX.l0, hX.l1, hX.l5, hX.l2, hX.l7, hX.fat, hX.kat, hX.lat, hX.kao] <;> rfl)) (by simp [-List.getD_eq_getElem?_getD, xE_setI, xsz_setI, xsl_setI, xtag_setI, xown_setI, xlen_setI, xE_setR, xsz_setR, xsl_setR, xtag_setR, xown_setR, xlen_setR, xE_setW, xsz_setW, xsl_setW, xtag_setW, xown_setW, xlen_setW, xi_setR, xi_setW, xr_setI, xr_setW, xww_setI, xww_setR, xi_setI, xr_setR, xww_setW, xE_new, xsz_new, xsl_new, hX.tx, hX.xp, hX.P.tag, hX.P.f0, hX.P.f1, hX.P.f2, hX.lt, hX.l0, hX.l1, hX.l5, hX.l2, hX.l7, hX.fat, hX.kat, hX.lat, hX.kao]) ?_
        refine xw_getS (b := (aL Z 2)) (pc := 28) fd_X5_92 dX5_prevailing_28 (by first | assumption | (simp [-List.getD_eq_getElem?_getD, xE_setI, xsz_setI, xsl_setI, xtag_setI, xown_setI, xlen_setI, xE_setR, xsz_setR, xsl_setR, xtag_setR, xown_setR, xlen_setR, xE_setW, xsz_setW, xsl_setW, xtag_setW, xown_setW, xlen_setW, xi_setR, xi_setW, xr_setI, xr_setW, xww_setI, xww_setR, xi_setI, xr_setR, xww_setW, xE_new, xsz_new, xsl_new, hX.tx, hX.xp, hX.P.tag, hX.P.f0, hX.P.f1, hX.P.f2, hX.lt, hX.l0, hX.l1, hX.l5, hX.l2, hX.l7, hX.fat, hX.kat, hX.lat, hX.kao, xsub]; done) | (simp [-List.getD_eq_getElem?_getD, xE_setI, xsz_setI, xsl_setI, xtag_setI, xown_setI, xlen_setI, xE_setR, xsz_setR, xsl_setR, xtag_setR, xown_setR, xlen_setR, xE_setW, xsz_setW, xsl_setW, xtag_setW, xown_setW, xlen_setW, xi_setR, xi_setW, xr_setI, xr_setW, xww_setI, xww_setR, xi_setI, xr_setR, xww_setW, xE_new, xsz_new, xsl_new, hX.tx, hX.xp, hX.P.tag, hX.P.f0, hX.P.f1, hX.P.f2, hX.lt, hX.l0, hX.l1, hX.l5, hX.l2, hX.l7, hX.fat, hX.kat, hX.lat, hX.kao] <;> rfl)) (by simp [-List.getD_eq_getElem?_getD, xE_setI, xsz_setI, xsl_setI, xtag_setI, xown_setI, xlen_setI, xE_setR, xsz_setR, xsl_setR, xtag_setR, xown_setR, xlen_setR, xE_setW, xsz_setW, xsl_setW, xtag_setW, xown_setW, xlen_setW, xi_setR, xi_setW, xr_setI, xr_setW, xww_setI, xww_setR, xi_setI, xr_setR, xww_setW, xE_new, xsz_new, xsl_new, hX.tx, hX.xp, hX.P.tag, hX.P.f0, hX.P.f1, hX.P.f2, hX.lt, hX.l0, hX.l1, hX.l5, hX.l2, hX.l7, hX.fat, hX.kat, hX.lat, hX.kao]) ?_
        refine xw_iload_n (pc := 31) dX5_prevailing_31 0 rfl ?_
        refine xw_callV (pc := 32) (xr_V (as := [_]) ok_J2_get rfl (by decide) q740 q706 q707 (by first | (rw [hX.P.l1.1]; rfl) | (rw [hc48.1.P.l1.1]; rfl)) (by first | (rw [hX.P.l1.1]; rfl) | (rw [hc48.1.P.l1.1]; rfl)) dX5_prevailing_32 rfl rfl (Nat.le_of_ble_eq_true rfl)) (SP_J2_get hX.P.l1 i (by rw [lr]; exact hil)) ?_
        refine xw_chkR (pc := 35) dX5_prevailing_35 q755 (by exact hti hil) ?_
        refine xw_astore_n (l' := [(3, _), (2, _), (1, _), (0, _)]) (pc := 38) dX5_prevailing_38 rfl (by decide) rfl ?_
        refine xw_aload_n (pc := 39) dX5_prevailing_39 0 rfl ?_
        refine xw_reffect (pc := 40) (hti hil) dX5_prevailing_40 q756 (Nat.le_of_ble_eq_true rfl) ?_
        rw [hef hil]
        refine xw_ifnullQ (pc := 43) 69 dX5_prevailing_43 rfl (fun hb43 => ?_) (fun b43 hb43 => ?_)
        · skip
          refine xw_iinc (v := nI (i + 1)) (l' := [(2, _), (3, _), (1, _), (0, _)]) (pc := 69) dX5_prevailing_69 1 rfl (nI_add _ 1) (by decide) rfl ?_
          refine xw_goto (pc := 72) 4 dX5_prevailing_72 rfl ?_
          refine xw_pick (pc := 4) (l' := [(2, _), (1, _), (0, _)]) [0, 2, 3] rfl ?_
          have hst : prvK s H (i + 1) = if isMa s i && (H i && (match prvK s H i with
              | none => true
              | some b => decide (0 < abv s i b))) then some i else prvK s H i := rfl
          rw [hbo] at hst
          first
          | (refine ih (i + 1) g (some b) (by omega) (by omega) hX hO ?_
             rw [hst, (ma_eff hX.P.wf hil g).mp hb43]
             rfl)
          | (refine ih (i + 1) g48 (some b) (by omega) (by omega) hc48.1 (hO.tr hc48.2) ?_
             rw [hst, hma, hb51]
             rfl)
          | (refine ih (i + 1) g48 (some i) (by omega) (by omega) hc48.1 (hO.tr hc48.2) ?_
             rw [hst, hma, hb51]
             first | rfl | (show (if (true && (true && decide _)) = true then _ else _) = _; rw [decide_eq_true ((cmp_abv hX.P.wf hil hbl).1.mp (Int32.not_le.mp hb64))]; rfl))
          | (refine ih (i + 1) g48 (some b) (by omega) (by omega) hc48.1 (hO.tr hc48.2) ?_
             rw [hst, hma, hb51]
             show (if (true && (true && decide _)) = true then _ else _) = _
             rw [decide_eq_false (fun q => Int32.not_lt.mpr hb64 ((cmp_abv hX.P.wf hil hbl).1.mpr q))]
             rfl)
        · have hma : isMa s i = true := by
            cases hm9 : isMa s i with
            | true => rfl
            | false => rw [(ma_eff hX.P.wf hil g).mpr hm9] at hb43; cases hb43
          refine xw_aload_n (pc := 46) dX5_prevailing_46 3 rfl ?_
          refine xw_aload_n (pc := 47) dX5_prevailing_47 0 rfl ?_
          refine xw_callF (pc := 48) (xr_V (as := [_]) ok_X5_holds rfl (by decide) q765 q766 q767 (by first | (rw [hX.lt]; rfl) | (rw [hc48.1.lt]; rfl)) (by first | (rw [hX.lt]; rfl) | (rw [hc48.1.lt]; rfl)) dX5_prevailing_48 rfl rfl (Nat.le_of_ble_eq_true rfl)) (SP_X5_holds (d := d) hX hil) ?_
          intro g48 hc48 hm48
          refine xw_if_eq (pc := 51) 69 dX5_prevailing_51 rfl (fun hb51 => ?_) (fun hb51 => ?_)
          · replace hb51 := bI_0.mp hb51
            skip
            refine xw_iinc (v := nI (i + 1)) (l' := [(2, _), (3, _), (1, _), (0, _)]) (pc := 69) dX5_prevailing_69 1 rfl (nI_add _ 1) (by decide) rfl ?_
            refine xw_goto (pc := 72) 4 dX5_prevailing_72 rfl ?_
            refine xw_pick (pc := 4) (l' := [(2, _), (1, _), (0, _)]) [0, 2, 3] rfl ?_
            have hst : prvK s H (i + 1) = if isMa s i && (H i && (match prvK s H i with
                | none => true
                | some b => decide (0 < abv s i b))) then some i else prvK s H i := rfl
            rw [hbo] at hst
            first
            | (refine ih (i + 1) g (some b) (by omega) (by omega) hX hO ?_
               rw [hst, (ma_eff hX.P.wf hil g).mp hb43]
               rfl)
            | (refine ih (i + 1) g48 (some b) (by omega) (by omega) hc48.1 (hO.tr hc48.2) ?_
               rw [hst, hma, hb51]
               rfl)
            | (refine ih (i + 1) g48 (some i) (by omega) (by omega) hc48.1 (hO.tr hc48.2) ?_
               rw [hst, hma, hb51]
               first | rfl | (show (if (true && (true && decide _)) = true then _ else _) = _; rw [decide_eq_true ((cmp_abv hX.P.wf hil hbl).1.mp (Int32.not_le.mp hb64))]; rfl))
            | (refine ih (i + 1) g48 (some b) (by omega) (by omega) hc48.1 (hO.tr hc48.2) ?_
               rw [hst, hma, hb51]
               show (if (true && (true && decide _)) = true then _ else _) = _
               rw [decide_eq_false (fun q => Int32.not_lt.mpr hb64 ((cmp_abv hX.P.wf hil hbl).1.mpr q))]
               rfl)
          · replace hb51 := bI_n0.mp hb51
            refine xw_aload_n (pc := 54) dX5_prevailing_54 2 rfl ?_
            refine xw_ifnull (pc := 55) dX5_prevailing_55 ?_
            refine xw_aload_n (pc := 58) dX5_prevailing_58 3 rfl ?_
            refine xw_aload_n (pc := 59) dX5_prevailing_59 0 rfl ?_
            refine xw_aload_n (pc := 60) dX5_prevailing_60 2 rfl ?_
            refine xw_callV (pc := 61) (xr_V (as := [_, _]) ok_X5_compared rfl (by decide) q847 q849 qs9 (by first | (rw [hX.lt]; rfl) | (rw [hc48.1.lt]; rfl)) (by first | (rw [hX.lt]; rfl) | (rw [hc48.1.lt]; rfl)) dX5_prevailing_61 rfl rfl (Nat.le_of_ble_eq_true rfl)) (SP_X5_compared (d := d + 32) hc48.1 hil hbl) ?_
            refine xw_if_ge (pc := 64) 69 dX5_prevailing_64 rfl (fun hb64 => ?_) (fun hb64 => ?_)
            · skip
              refine xw_iinc (v := nI (i + 1)) (l' := [(2, _), (3, _), (1, _), (0, _)]) (pc := 69) dX5_prevailing_69 1 rfl (nI_add _ 1) (by decide) rfl ?_
              refine xw_goto (pc := 72) 4 dX5_prevailing_72 rfl ?_
              refine xw_pick (pc := 4) (l' := [(2, _), (1, _), (0, _)]) [0, 2, 3] rfl ?_
              have hst : prvK s H (i + 1) = if isMa s i && (H i && (match prvK s H i with
                  | none => true
                  | some b => decide (0 < abv s i b))) then some i else prvK s H i := rfl
              rw [hbo] at hst
              first
              | (refine ih (i + 1) g (some b) (by omega) (by omega) hX hO ?_
                 rw [hst, (ma_eff hX.P.wf hil g).mp hb43]
                 rfl)
              | (refine ih (i + 1) g48 (some b) (by omega) (by omega) hc48.1 (hO.tr hc48.2) ?_
                 rw [hst, hma, hb51]
                 rfl)
              | (refine ih (i + 1) g48 (some i) (by omega) (by omega) hc48.1 (hO.tr hc48.2) ?_
                 rw [hst, hma, hb51]
                 first | rfl | (show (if (true && (true && decide _)) = true then _ else _) = _; rw [decide_eq_true ((cmp_abv hX.P.wf hil hbl).1.mp (Int32.not_le.mp hb64))]; rfl))
              | (refine ih (i + 1) g48 (some b) (by omega) (by omega) hc48.1 (hO.tr hc48.2) ?_
                 rw [hst, hma, hb51]
                 show (if (true && (true && decide _)) = true then _ else _) = _
                 rw [decide_eq_false (fun q => Int32.not_lt.mpr hb64 ((cmp_abv hX.P.wf hil hbl).1.mpr q))]
                 rfl)
            · refine xw_aload_n (pc := 67) dX5_prevailing_67 0 rfl ?_
              refine xw_astore_n (l' := [(1, _), (3, _), (2, _), (0, _)]) (pc := 68) dX5_prevailing_68 rfl (by decide) rfl ?_
              skip
              refine xw_iinc (v := nI (i + 1)) (l' := [(2, _), (1, _), (3, _), (0, _)]) (pc := 69) dX5_prevailing_69 2 rfl (nI_add _ 1) (by decide) rfl ?_
              refine xw_goto (pc := 72) 4 dX5_prevailing_72 rfl ?_
              refine xw_pick (pc := 4) (l' := [(2, _), (1, _), (0, _)]) [0, 1, 3] rfl ?_
              have hst : prvK s H (i + 1) = if isMa s i && (H i && (match prvK s H i with
                  | none => true
                  | some b => decide (0 < abv s i b))) then some i else prvK s H i := rfl
              rw [hbo] at hst
              first
              | (refine ih (i + 1) g (some b) (by omega) (by omega) hX hO ?_
                 rw [hst, (ma_eff hX.P.wf hil g).mp hb43]
                 rfl)
              | (refine ih (i + 1) g48 (some b) (by omega) (by omega) hc48.1 (hO.tr hc48.2) ?_
                 rw [hst, hma, hb51]
                 rfl)
              | (refine ih (i + 1) g48 (some i) (by omega) (by omega) hc48.1 (hO.tr hc48.2) ?_
                 rw [hst, hma, hb51]
                 first | rfl | (show (if (true && (true && decide _)) = true then _ else _) = _; rw [decide_eq_true ((cmp_abv hX.P.wf hil hbl).1.mp (Int32.not_le.mp hb64))]; rfl))
              | (refine ih (i + 1) g48 (some b) (by omega) (by omega) hc48.1 (hO.tr hc48.2) ?_
                 rw [hst, hma, hb51]
                 show (if (true && (true && decide _)) = true then _ else _) = _
                 rw [decide_eq_false (fun q => Int32.not_lt.mpr hb64 ((cmp_abv hX.P.wf hil hbl).1.mpr q))]
                 rfl)
theorem SP_X5_prevailing {d : Nat} {g : xG} {x lk fa ka la p n rr ww k : Nat} {Z : xAd} {s : Nat → Int32} {day feats wo : Int32} {H : Nat → Bool} (hX : xCs g x lk fa ka la p Z s n rr ww k day feats wo H) : XM M_X5_prevailing (d + 46) [.ref lk] g (xVal (xref ((prvK s H rr).map (fun r => (aR Z).getD r 0))) (fun g' => xCs g' x lk fa ka la p Z s n rr ww k day feats wo H ∧ xOnly ka g g')) := by
  refine xm_of (by decide +kernel) (Nat.le_of_ble_eq_true rfl) ?_
  show XW _ _ 0 [(0, _)] [] _ _
  refine xw_null (pc := 0) dX5_prevailing_0 ?_
  refine xw_astore_n (l' := [(1, _), (0, _)]) (pc := 1) dX5_prevailing_1 rfl (by decide) rfl ?_
  refine xw_iconst (v := nI 0) (pc := 2) dX5_prevailing_2 rfl ?_
  refine xw_istore_n (l' := [(2, _), (1, _), (0, _)]) (pc := 3) dX5_prevailing_3 rfl (by decide) rfl ?_
  exact lp_X5_prevailing (rr + 1) 0 g none (by omega) (by omega) hX xOnly.rf rfl

theorem SP_X5_outcome {d : Nat} {g : xG} {x lk fa ka la p n rr ww k : Nat} {Z : xAd} {s : Nat → Int32} {day feats wo : Int32} {H : Nat → Bool} (hX : xCs g x lk fa ka la p Z s n rr ww k day feats wo H) : XM M_X5_outcome (d + 47) [.ref lk] g (xVal (xref (effO g (ocm s H rr k))) (fun g' => xCs g' x lk fa ka la p Z s n rr ww k day feats wo H ∧ xOnly ka g g')) := by
  refine xm_of (by decide +kernel) (Nat.le_of_ble_eq_true rfl) ?_
  show XW _ _ 0 [(0, _)] [] _ _
  refine xw_aload_n (pc := 0) dX5_outcome_0 0 rfl ?_
  refine xw_callF (pc := 1) (xr_V (as := []) ok_X5_prevailing rfl (by decide) q750 q751 q752 (by first | (rw [hX.lt]; rfl) | (rw [hX1.lt]; rfl)) (by first | (rw [hX.lt]; rfl) | (rw [hX1.lt]; rfl)) dX5_outcome_1 rfl rfl (Nat.le_of_ble_eq_true rfl)) (SP_X5_prevailing (d := d) hX) ?_
  intro g1 hc1 hm1
  have hX1 := hc1.1
  have tsc : xtag g1 ((aC Z).getD k 0) = 3 := (hX1.P.sc _ hX1.kn).1
  have hcn := SP_X3_counts hX1.P.sc hX1.P.wf.o hX1.P.wf.n10 hX1.P.wf.e k hX1.kn (d + 46) (by have := hX1.kn; have := hX1.P.wf.n10; omega)
  refine xw_astore_n (l' := [(1, _), (0, _)]) (pc := 4) dX5_outcome_4 rfl (by decide) rfl ?_
  refine xw_aload_n (pc := 5) dX5_outcome_5 0 rfl ?_
  refine xw_ifnonnullQ (pc := 6) 19 dX5_outcome_6 rfl (fun b6 hb6 => ?_) (fun hb6 => ?_)
  · obtain ⟨r, hpr, hr2⟩ := Option.map_eq_some_iff.mp hb6
    rw [hb6, ← hr2]
    have hrr := prvK_lt hpr
    have hbt := (hX1.P.ru hrr).1
    have hef := (hX1.P.ru hrr).2.2.2.2.2.2.2.2.2.2.2.2
    refine xw_aload_n (pc := 19) dX5_outcome_19 0 rfl ?_
    refine xw_reffect (pc := 20) hbt dX5_outcome_20 q756 (Nat.le_of_ble_eq_true rfl) ?_
    refine xw_aret (pc := 23) (.object "PolicyNotation$Effect") dX5_outcome_23 rfl ?_
    unfold ocm
    rw [hpr]
    exact ⟨by first | (rw [effO_fr (hc1.2.fr hX.kao6)]) | (rw [hef, effO_fr (hc1.2.fr hX.kao6)]), hc1⟩
  · have hpr : prvK s H rr = none := by
      cases hq : prvK s H rr with
      | none => rfl
      | some r => rw [hq] at hb6; cases hb6
    refine xw_aload_n (pc := 9) dX5_outcome_9 1 rfl ?_
    refine xw_getS (b := ((aC Z).getD k 0)) (pc := 10) fd_X5_43 dX5_outcome_10 (by first | assumption | (simp [-List.getD_eq_getElem?_getD, xE_setI, xsz_setI, xsl_setI, xtag_setI, xown_setI, xlen_setI, xE_setR, xsz_setR, xsl_setR, xtag_setR, xown_setR, xlen_setR, xE_setW, xsz_setW, xsl_setW, xtag_setW, xown_setW, xlen_setW, xi_setR, xi_setW, xr_setI, xr_setW, xww_setI, xww_setR, xi_setI, xr_setR, xww_setW, xE_new, xsz_new, xsl_new, hX.tx, hX.xp, hX.P.tag, hX.P.f0, hX.P.f1, hX.P.f2, hX.lt, hX.l0, hX.l1, hX.l5, hX.l2, hX.l7, hX.fat, hX.kat, hX.lat, hX.kao, hX1.tx, hX1.xp, hX1.P.tag, hX1.P.f0, hX1.P.f1, hX1.P.f2, hX1.lt, hX1.l0, hX1.l1, hX1.l5, hX1.l2, hX1.l7, hX1.fat, hX1.kat, hX1.lat, hX1.kao, xsub]; done) | (simp [-List.getD_eq_getElem?_getD, xE_setI, xsz_setI, xsl_setI, xtag_setI, xown_setI, xlen_setI, xE_setR, xsz_setR, xsl_setR, xtag_setR, xown_setR, xlen_setR, xE_setW, xsz_setW, xsl_setW, xtag_setW, xown_setW, xlen_setW, xi_setR, xi_setW, xr_setI, xr_setW, xww_setI, xww_setR, xi_setI, xr_setR, xww_setW, xE_new, xsz_new, xsl_new, hX.tx, hX.xp, hX.P.tag, hX.P.f0, hX.P.f1, hX.P.f2, hX.lt, hX.l0, hX.l1, hX.l5, hX.l2, hX.l7, hX.fat, hX.kat, hX.lat, hX.kao, hX1.tx, hX1.xp, hX1.P.tag, hX1.P.f0, hX1.P.f1, hX1.P.f2, hX1.lt, hX1.l0, hX1.l1, hX1.l5, hX1.l2, hX1.l7, hX1.fat, hX1.kat, hX1.lat, hX1.kao] <;> rfl)) (by simp [-List.getD_eq_getElem?_getD, xE_setI, xsz_setI, xsl_setI, xtag_setI, xown_setI, xlen_setI, xE_setR, xsz_setR, xsl_setR, xtag_setR, xown_setR, xlen_setR, xE_setW, xsz_setW, xsl_setW, xtag_setW, xown_setW, xlen_setW, xi_setR, xi_setW, xr_setI, xr_setW, xww_setI, xww_setR, xi_setI, xr_setR, xww_setW, xE_new, xsz_new, xsl_new, hX.tx, hX.xp, hX.P.tag, hX.P.f0, hX.P.f1, hX.P.f2, hX.lt, hX.l0, hX.l1, hX.l5, hX.l2, hX.l7, hX.fat, hX.kat, hX.lat, hX.kao, hX1.tx, hX1.xp, hX1.P.tag, hX1.P.f0, hX1.P.f1, hX1.P.f2, hX1.lt, hX1.l0, hX1.l1, hX1.l5, hX1.l2, hX1.l7, hX1.fat, hX1.kat, hX1.lat, hX1.kao]) ?_
    refine xw_callV (pc := 13) (xr_V (as := []) ok_X3_counts rfl (by decide) q856 q857 q858 (by rw [tsc]; rfl) (by rw [tsc]; rfl) dX5_outcome_13 rfl rfl (Nat.le_of_ble_eq_true rfl)) (hcn) ?_
    refine xw_goto (pc := 16) 23 dX5_outcome_16 rfl ?_
    refine xw_aret (pc := 23) (.object "PolicyNotation$Effect") dX5_outcome_23 rfl ?_
    unfold ocm
    rw [hpr]
    exact ⟨by first | (rw [effO_fr (hc1.2.fr hX.kao6)]) | (rw [hef, effO_fr (hc1.2.fr hX.kao6)]), hc1⟩

