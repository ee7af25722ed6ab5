/-! CLASS 63: read: the handlers -/
set_option maxRecDepth 100000
theorem rdNot {pc : Nat} (h : 138 ≤ pc) {E : String} : ∀ z ∈ M_X1_read.2.2.2.2, xNot "PolicyNotation" pc E z := by
  intro z hz
  have hz2 : z = (0, 108, 119, 511) ∨ z = (0, 108, 136, 0) ∨ z = (119, 138, 136, 0) := by simpa [M_X1_read] using hz
  rcases hz2 with rfl | rfl | rfl <;> exact Or.inl (by unfold covers xEnt; simp; omega)
theorem rdNot2 {E : String} : ∀ z ∈ [((0 : Nat), (108 : Nat), (119 : Nat), (511 : Nat)), (0, 108, 136, 0)], xNot "PolicyNotation" 135 E z := by
  intro z hz
  have hz2 : z = (0, 108, 119, 511) ∨ z = (0, 108, 136, 0) := by simpa using hz
  rcases hz2 with rfl | rfl <;> exact Or.inl rfl
theorem rdNot3 {pc : Nat} : ∀ z ∈ [((0 : Nat), (108 : Nat), (119 : Nat), (511 : Nat))], xNot "PolicyNotation" pc (xcn 26) z := by
  intro z hz
  have hz2 : z = (0, 108, 119, 511) := by simpa using hz
  subst hz2
  exact Or.inr ⟨by decide, _, q1837, by decide +kernel⟩
theorem covAll {pc a b t c : Nat} (h1 : a ≤ pc) (h2 : pc < b) : covers (xEnt (a, b, t, c)) pc = true := by
  unfold covers xEnt
  simp
  exact ⟨h1, h2⟩

theorem rd_136 {d : Nat} {g : xG} {x tb ln q : Nat} {ch : Nat → Nat} (tx : xtag g x = 1) (ox : xown g x = 1) (h8 : xr g x 8 = some tb) (hB : xBd g 11 tb ln ch) (hln : ln ≤ 1000) (q0 : 0 < xtag g q) (q28 : xtag g q < 28) (qo : xown g q = 9) : XW M_X1_read (d + 80) 136 [(0, .ref x)] [.ref q] g (fun rs g' => rs = .inr q ∧ xBd g' 11 tb 0 ch ∧ xFr (oEq 11) 0 g g') := by
  have hql : q < xsz g := xlt (by omega)
  refine xw_astore (l' := [(6, _), (0, _)]) (pc := 136) dX1_read_136 (by decide) rfl ?_
  refine xw_aload_n (pc := 138) dX1_read_138 1 rfl ?_
  refine xw_getS (b := tb) (pc := 139) fd_X1_47 dX1_read_139 (by first | assumption | (simp [-List.getD_eq_getElem?_getD, xE_setI, xsz_setI, xsl_setI, xtag_setI, xown_setI, xlen_setI, xE_setR, xsz_setR, xsl_setR, xtag_setR, xown_setR, xlen_setR, xE_setW, xsz_setW, xsl_setW, xtag_setW, xown_setW, xlen_setW, xi_setR, xi_setW, xr_setI, xr_setW, xww_setI, xww_setR, xi_setI, xr_setR, xww_setW, xE_new, xsz_new, xsl_new, tx, h8, xsub]; done) | (simp [-List.getD_eq_getElem?_getD, xE_setI, xsz_setI, xsl_setI, xtag_setI, xown_setI, xlen_setI, xE_setR, xsz_setR, xsl_setR, xtag_setR, xown_setR, xlen_setR, xE_setW, xsz_setW, xsl_setW, xtag_setW, xown_setW, xlen_setW, xi_setR, xi_setW, xr_setI, xr_setW, xww_setI, xww_setR, xi_setI, xr_setR, xww_setW, xE_new, xsz_new, xsl_new, tx, h8] <;> rfl)) (by simp [-List.getD_eq_getElem?_getD, xE_setI, xsz_setI, xsl_setI, xtag_setI, xown_setI, xlen_setI, xE_setR, xsz_setR, xsl_setR, xtag_setR, xown_setR, xlen_setR, xE_setW, xsz_setW, xsl_setW, xtag_setW, xown_setW, xlen_setW, xi_setR, xi_setW, xr_setI, xr_setW, xww_setI, xww_setR, xi_setI, xr_setR, xww_setW, xE_new, xsz_new, xsl_new, tx, h8]) ?_
  refine xw_iconst (v := nI 0) (pc := 142) dX1_read_142 rfl ?_
  refine xw_callH (pc := 143) (xr_V (as := [_]) ok_J8_setLength rfl (by decide) q2079 q2080 q2081 (by rw [hB.tag]; rfl) (by rw [hB.tag]; rfl) dX1_read_143 rfl rfl (Nat.le_of_ble_eq_true rfl)) (SP_J8_setLength (d := d + 73) hB (by decide) (by omega)) ?_
  intro g143 hc143 hm143
  refine xw_aload (pc := 146) dX1_read_146 0 rfl ?_
  refine xw_athrow (pc := 148) dX1_read_148 ?_
  obtain ⟨hb, hF⟩ := hc143
  exact xx_out (rdNot (by decide)) (by rw [hF.tag hql]; exact q0) (by rw [hF.tag hql]; exact q28) (by rw [hF.own hql, qo]; decide) ⟨rfl, hb, hF⟩
def xRdE (g : xG) (x tb f N : Nat) (O : Nat → Prop) (ch : Nat → Nat) (rs : Option Value ⊕ Nat) (g' : xG) : Prop := ∃ q, rs = .inr q ∧ xtag g' q = 22 ∧ xown g' q = 9 ∧ xi g' x 9 = nI f ∧ (∀ j, j ≠ 9 → xi g' x j = xi g x j) ∧ (∀ j, xr g' x j = xr g x j) ∧ xBd g' 11 tb 0 ch ∧ xFr O N g g'
/-- a Wrong, caught -/
theorem rd_119 {d : Nat} {g : xG} {x tb ln q : Nat} {ch : Nat → Nat} (tx : xtag g x = 1) (ox : xown g x = 1) (h8 : xr g x 8 = some tb) (hB : xBd g 11 tb ln ch) (hln : ln ≤ 1000) {f : Nat} (qt : xtag g q = 17) (qo : xown g q = 9) (qa : xi g q 6 = nI f) : XW M_X1_read (d + 80) 119 [(0, .ref x)] [.ref q] g (xRdE g x tb f 7 (fun o => o = 1 ∨ o = 11) ch) := by
  have hxl : x < xsz g := xlt (by rw [tx]; decide)
  have hx0 : xown g x ≠ 0 := by rw [ox]; decide
  refine xw_astore_n (l' := [(1, _), (0, _)]) (pc := 119) dX1_read_119 rfl (by decide) rfl ?_
  refine xw_aload_n (pc := 120) dX1_read_120 1 rfl ?_
  refine xw_aload_n (pc := 121) dX1_read_121 0 rfl ?_
  refine xw_getNat (k := f) (pc := 122) fd_X1_513 dX1_read_122 (by first | assumption | (simp [-List.getD_eq_getElem?_getD, xE_setI, xsz_setI, xsl_setI, xtag_setI, xown_setI, xlen_setI, xE_setR, xsz_setR, xsl_setR, xtag_setR, xown_setR, xlen_setR, xE_setW, xsz_setW, xsl_setW, xtag_setW, xown_setW, xlen_setW, xi_setR, xi_setW, xr_setI, xr_setW, xww_setI, xww_setR, xi_setI, xr_setR, xww_setW, xE_new, xsz_new, xsl_new, tx, ox, qt, qa, xsub]; done) | (simp [-List.getD_eq_getElem?_getD, xE_setI, xsz_setI, xsl_setI, xtag_setI, xown_setI, xlen_setI, xE_setR, xsz_setR, xsl_setR, xtag_setR, xown_setR, xlen_setR, xE_setW, xsz_setW, xsl_setW, xtag_setW, xown_setW, xlen_setW, xi_setR, xi_setW, xr_setI, xr_setW, xww_setI, xww_setR, xi_setI, xr_setR, xww_setW, xE_new, xsz_new, xsl_new, tx, ox, qt, qa] <;> rfl)) (by simp [-List.getD_eq_getElem?_getD, xE_setI, xsz_setI, xsl_setI, xtag_setI, xown_setI, xlen_setI, xE_setR, xsz_setR, xsl_setR, xtag_setR, xown_setR, xlen_setR, xE_setW, xsz_setW, xsl_setW, xtag_setW, xown_setW, xlen_setW, xi_setR, xi_setW, xr_setI, xr_setW, xww_setI, xww_setR, xi_setI, xr_setR, xww_setW, xE_new, xsz_new, xsl_new, tx, ox, qt, qa]) ?_
  refine xw_putI (pc := 125) fd_X1_51 (xfin_of (by decide) (by decide +kernel)) dX1_read_125 (by first | assumption | (simp [-List.getD_eq_getElem?_getD, xE_setI, xsz_setI, xsl_setI, xtag_setI, xown_setI, xlen_setI, xE_setR, xsz_setR, xsl_setR, xtag_setR, xown_setR, xlen_setR, xE_setW, xsz_setW, xsl_setW, xtag_setW, xown_setW, xlen_setW, xi_setR, xi_setW, xr_setI, xr_setW, xww_setI, xww_setR, xi_setI, xr_setR, xww_setW, xE_new, xsz_new, xsl_new, tx, ox, qt, qa, xsub]; done) | (simp [-List.getD_eq_getElem?_getD, xE_setI, xsz_setI, xsl_setI, xtag_setI, xown_setI, xlen_setI, xE_setR, xsz_setR, xsl_setR, xtag_setR, xown_setR, xlen_setR, xE_setW, xsz_setW, xsl_setW, xtag_setW, xown_setW, xlen_setW, xi_setR, xi_setW, xr_setI, xr_setW, xww_setI, xww_setR, xi_setI, xr_setR, xww_setW, xE_new, xsz_new, xsl_new, tx, ox, qt, qa] <;> rfl)) (by first | assumption | (simp [-List.getD_eq_getElem?_getD, xE_setI, xsz_setI, xsl_setI, xtag_setI, xown_setI, xlen_setI, xE_setR, xsz_setR, xsl_setR, xtag_setR, xown_setR, xlen_setR, xE_setW, xsz_setW, xsl_setW, xtag_setW, xown_setW, xlen_setW, xi_setR, xi_setW, xr_setI, xr_setW, xww_setI, xww_setR, xi_setI, xr_setR, xww_setW, xE_new, xsz_new, xsl_new, tx, ox, qt, qa]; done) | (simp [-List.getD_eq_getElem?_getD, xE_setI, xsz_setI, xsl_setI, xtag_setI, xown_setI, xlen_setI, xE_setR, xsz_setR, xsl_setR, xtag_setR, xown_setR, xlen_setR, xE_setW, xsz_setW, xsl_setW, xtag_setW, xown_setW, xlen_setW, xi_setR, xi_setW, xr_setI, xr_setW, xww_setI, xww_setR, xi_setI, xr_setR, xww_setW, xE_new, xsz_new, xsl_new, tx, ox, qt, qa]; assumption)) ?_
  refine xw_mkX (pc := 128) 22 rfl (by decide) (by decide) rfl (by decide +kernel) (by decide +kernel) q1184 q100 xt_IAE (by decide +kernel) dX1_read_128 dX1_read_131 dX1_read_132 (Nat.le_of_ble_eq_true rfl) ?_
  refine xw_athrow (pc := 135) dX1_read_135 ?_
  have F1 : xFr (fun o => o = 1 ∨ o = 11) 0 g (xsetI g x 9 (nI f)) := xFr.rf.si (Or.inr (Or.inl ox))
  have F2 : xFr (fun o => o = 1 ∨ o = 11) 7 g (xExc (xsetI g x 9 (nI f)) 22) := F1.exc.sub (fun _ h => h) (by omega)
  have et : xtag (xExc (xsetI g x 9 (nI f)) 22) (xsz g) = 22 := xExc_tag (g := xsetI g x 9 (nI f))
  have eo : xown (xExc (xsetI g x 9 (nI f)) 22) (xsz g) = 9 := xExc_own (g := xsetI g x 9 (nI f))
  have ec : ∀ c, c < xsz g → xc (xExc (xsetI g x 9 (nI f)) 22) c = xc (xsetI g x 9 (nI f)) c := fun c hc => xExc_c (g := xsetI g x 9 (nI f)) hc
  have e8 : ∀ j, xr (xExc (xsetI g x 9 (nI f)) 22) x j = xr g x j := fun j => (xr_of (ec x hxl) j).trans xr_setI
  have ei : ∀ j, xi (xExc (xsetI g x 9 (nI f)) 22) x j = xi (xsetI g x 9 (nI f)) x j := fun j => xi_of (ec x hxl) j
  refine xx_catchAny [(0, 108, 119, 511), (0, 108, 136, 0)] (119, 138, 136, 0) [] rfl rdNot2 rfl rfl (by show 0 < xtag (xExc (xsetI g x 9 (nI f)) 22) (xsz g); rw [et]; decide) (by show xtag (xExc (xsetI g x 9 (nI f)) 22) (xsz g) < 28; rw [et]; decide) (by show xown (xExc (xsetI g x 9 (nI f)) 22) (xsz g) ≠ 0; rw [eo]; decide) ?_
  refine xw_pick (pc := 136) (l' := [(0, _)]) [1] rfl ?_
  have hB2 := hB.fr (O := oEq 1) (((xFr.rf (n := 0)).si (a := x) (j := 9) (v := nI f) (Or.inr ox)).exc (t := 22)) (by unfold oEq; omega)
  refine (rd_136 (d := d) ((F2.tag hxl).trans tx) ((F2.own hxl).trans ox) ((e8 8).trans h8) hB2 hln (q := xsz g) (by rw [et]; decide) (by rw [et]; decide) eo).mono (fun rs g' hp _ => ?_)
  obtain ⟨rfl, p1, p2⟩ := hp
  have hz : xsz g < xsz (xExc (xsetI g x 9 (nI f)) 22) := Nat.lt_succ_self _
  have nx : ¬ oEq 11 (xown (xExc (xsetI g x 9 (nI f)) 22) x) := by rw [F2.own hxl, ox]; unfold oEq; omega
  exact ⟨_, rfl, (p2.tag hz).trans et, (p2.own hz).trans eo, (p2.i' (F2.lt hxl) nx).trans ((ei 9).trans (xi_setIS (by rw [tx]; decide))), fun j hj => (p2.i' (F2.lt hxl) nx).trans ((ei j).trans (xi_setIK hj)), fun j => (p2.r' (F2.lt hxl) nx).trans (e8 j), p1, (F2.tr (p2.sub (m := 0) (fun o h => Or.inr h) (Nat.le_refl _))).sub (fun _ h => h) (by omega)⟩
