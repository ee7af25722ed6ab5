/-! LAW 1: the law's own wrappers -/
set_option maxRecDepth 100000
/-- something of tag t goes up -/
def xErr (t : Nat) (E : xG → Prop) (rs : Option Value ⊕ Nat) (g' : xG) : Prop := ∃ q, rs = .inr q ∧ xtag g' q = t ∧ xown g' q = 9 ∧ E g'
theorem cvE {a b t c pc : Nat} (h1 : a ≤ pc) (h2 : pc < b) : covers (xEnt (a, b, t, c)) pc = true := by
  unfold covers xEnt
  simp
  exact ⟨h1, h2⟩

theorem SP_X0_scope_ok {d : Nat} {g : xG} {x out : Nat} {p0 : Int32} {E : xG → Prop} (hx : xtag g x = 1) (hE : ∀ g', E g' → xtag g' out = 106 ∧ xown g' out = 4 ∧ xlen g' out = 1) {v : Int32} (h : XM M_X1_scope (d + 90) [.ref x, .int p0] g (xVal (.int v) E)) : XM M_X0_scope (d + 91) [.ref x, .int p0, .ref out] g (xVal (.int (nI 0)) (fun g' => ∃ g1, E g1 ∧ g' = xsetW g1 out 0 (v.toInt64.toUInt64))) := by
  refine xm_of (by decide +kernel) (Nat.le_of_ble_eq_true rfl) ?_
  show XW _ _ 0 [(0, _), (1, _), (2, _)] [] _ _
  refine xw_aload_n (pc := 0) dX0_scope_0 2 rfl ?_
  refine xw_iconst (v := nI 0) (pc := 1) dX0_scope_1 rfl ?_
  refine xw_aload_n (pc := 2) dX0_scope_2 0 rfl ?_
  refine xw_iload_n (pc := 3) dX0_scope_3 1 rfl ?_
  refine xw_callF (pc := 4) (xr_V (as := [_]) ok_X1_scope rfl (by decide) q1052 q1053 q1054 (by rw [hx]; rfl) (by rw [hx]; rfl) dX0_scope_4 rfl rfl (Nat.le_of_ble_eq_true rfl)) (h) ?_
  intro g1 hc1 hm1
  obtain ⟨t1, t2, t3⟩ := hE g1 hc1
  have t2n : xown g1 out ≠ 0 := by rw [t2]; decide
  refine xw_i2l (pc := 7) dX0_scope_7 ?_
  refine xw_last (k := 0) (pc := 8) dX0_scope_8 (by simp [-List.getD_eq_getElem?_getD, xE_setI, xsz_setI, xsl_setI, xtag_setI, xown_setI, xlen_setI, xE_setR, xsz_setR, xsl_setR, xtag_setR, xown_setR, xlen_setR, xE_setW, xsz_setW, xsl_setW, xtag_setW, xown_setW, xlen_setW, xi_setR, xi_setW, xr_setI, xr_setW, xww_setI, xww_setR, xi_setI, xr_setR, xww_setW, xE_new, xsz_new, xsl_new, hx, t1, t3, t2n]) (by first | assumption | (simp [-List.getD_eq_getElem?_getD, xE_setI, xsz_setI, xsl_setI, xtag_setI, xown_setI, xlen_setI, xE_setR, xsz_setR, xsl_setR, xtag_setR, xown_setR, xlen_setR, xE_setW, xsz_setW, xsl_setW, xtag_setW, xown_setW, xlen_setW, xi_setR, xi_setW, xr_setI, xr_setW, xww_setI, xww_setR, xi_setI, xr_setR, xww_setW, xE_new, xsz_new, xsl_new, hx, t1, t3, t2n]; done) | (simp [-List.getD_eq_getElem?_getD, xE_setI, xsz_setI, xsl_setI, xtag_setI, xown_setI, xlen_setI, xE_setR, xsz_setR, xsl_setR, xtag_setR, xown_setR, xlen_setR, xE_setW, xsz_setW, xsl_setW, xtag_setW, xown_setW, xlen_setW, xi_setR, xi_setW, xr_setI, xr_setW, xww_setI, xww_setR, xi_setI, xr_setR, xww_setW, xE_new, xsz_new, xsl_new, hx, t1, t3, t2n]; assumption)) rfl (by rw [t3]; decide) ?_
  refine xw_goto (pc := 9) 18 dX0_scope_9 rfl ?_
  refine xw_iconst (v := nI 0) (pc := 18) dX0_scope_18 rfl ?_
  refine xw_iret (pc := 19) .int dX0_scope_19 rfl ?_ 
  exact ⟨rfl, g1, hc1, rfl⟩

theorem SP_X0_scope_23 {d : Nat} {g : xG} {x out : Nat} {p0 : Int32} {E : xG → Prop} (hx : xtag g x = 1) (h : XM M_X1_scope (d + 90) [.ref x, .int p0] g (xErr 23 E)) : XM M_X0_scope (d + 91) [.ref x, .int p0, .ref out] g (xVal (.int (nI 1)) E) := by
  refine xm_of (by decide +kernel) (Nat.le_of_ble_eq_true rfl) ?_
  show XW _ _ 0 [(0, _), (1, _), (2, _)] [] _ _
  refine xw_aload_n (pc := 0) dX0_scope_0 2 rfl ?_
  refine xw_iconst (v := nI 0) (pc := 1) dX0_scope_1 rfl ?_
  refine xw_aload_n (pc := 2) dX0_scope_2 0 rfl ?_
  refine xw_iload_n (pc := 3) dX0_scope_3 1 rfl ?_
  refine xw_call (pc := 4) (xr_V (as := [_]) ok_X1_scope rfl (by decide) q1052 q1053 q1054 (by rw [hx]; rfl) (by rw [hx]; rfl) dX0_scope_4 rfl rfl (Nat.le_of_ble_eq_true rfl)) (h) ?_
  intro rs g1 hc1 hm1
  obtain ⟨q, rfl, q1, q2, q3⟩ := hc1
  refine xx_catch [] (0, 9, 12, 13) [(0, 9, 15, 15)] rfl (fun z hz => by cases hz) (cvE (by decide) (by decide)) (by decide) q1032 (by rw [q1]; exact q1070) (by rw [q1]; decide) (by rw [q1]; decide) (by rw [q2]; decide) ?_
  refine xw_astore_n (l' := [(3, _), (0, _), (1, _), (2, _)]) (pc := 12) dX0_scope_12 rfl (by decide) rfl ?_
  refine xw_iconst (v := nI 1) (pc := 13) dX0_scope_13 rfl ?_
  refine xw_iret (pc := 14) .int dX0_scope_14 rfl ?_ 
  exact ⟨rfl, q3⟩

theorem SP_X0_scope_24 {d : Nat} {g : xG} {x out : Nat} {p0 : Int32} {E : xG → Prop} (hx : xtag g x = 1) (h : XM M_X1_scope (d + 90) [.ref x, .int p0] g (xErr 24 E)) : XM M_X0_scope (d + 91) [.ref x, .int p0, .ref out] g (xVal (.int (nI 2)) E) := by
  refine xm_of (by decide +kernel) (Nat.le_of_ble_eq_true rfl) ?_
  show XW _ _ 0 [(0, _), (1, _), (2, _)] [] _ _
  refine xw_aload_n (pc := 0) dX0_scope_0 2 rfl ?_
  refine xw_iconst (v := nI 0) (pc := 1) dX0_scope_1 rfl ?_
  refine xw_aload_n (pc := 2) dX0_scope_2 0 rfl ?_
  refine xw_iload_n (pc := 3) dX0_scope_3 1 rfl ?_
  refine xw_call (pc := 4) (xr_V (as := [_]) ok_X1_scope rfl (by decide) q1052 q1053 q1054 (by rw [hx]; rfl) (by rw [hx]; rfl) dX0_scope_4 rfl rfl (Nat.le_of_ble_eq_true rfl)) (h) ?_
  intro rs g1 hc1 hm1
  obtain ⟨q, rfl, q1, q2, q3⟩ := hc1
  have hp : ∀ z ∈ [((0 : Nat), (9 : Nat), (12 : Nat), (13 : Nat))], xNot "PolicyNotationLaw" 4 (xcn (xtag g1 q)) z := by
    intro z hz
    rw [q1]
    have hz2 : z = (0, 9, 12, 13) := by simpa using hz
    subst hz2
    exact Or.inr ⟨by decide, _, q1032, by decide +kernel⟩
  refine xx_catch [(0, 9, 12, 13)] (0, 9, 15, 15) [] rfl hp (cvE (by decide) (by decide)) (by decide) q1051 (by rw [q1]; exact q1094) (by rw [q1]; decide) (by rw [q1]; decide) (by rw [q2]; decide) ?_
  refine xw_astore_n (l' := [(3, _), (0, _), (1, _), (2, _)]) (pc := 15) dX0_scope_15 rfl (by decide) rfl ?_
  refine xw_iconst (v := nI 2) (pc := 16) dX0_scope_16 rfl ?_
  refine xw_iret (pc := 17) .int dX0_scope_17 rfl ?_ 
  exact ⟨rfl, q3⟩

theorem SP_X0_setDefault_ok {d : Nat} {g : xG} {x out : Nat} {p0 p1 : Int32} {E : xG → Prop} (hx : xtag g x = 1) (hE : ∀ g', E g' → xtag g' out = 106 ∧ xown g' out = 4 ∧ xlen g' out = 1) {v : Int32} (h : XM M_X1_setDefault (d + 90) [.ref x, .int p0, .int p1] g (xVal (.int v) E)) : XM M_X0_setDefault (d + 91) [.ref x, .int p0, .int p1, .ref out] g (xVal (.int (nI 0)) (fun g' => ∃ g1, E g1 ∧ g' = xsetW g1 out 0 (v.toInt64.toUInt64))) := by
  refine xm_of (by decide +kernel) (Nat.le_of_ble_eq_true rfl) ?_
  show XW _ _ 0 [(0, _), (1, _), (2, _), (3, _)] [] _ _
  refine xw_aload_n (pc := 0) dX0_setDefault_0 3 rfl ?_
  refine xw_iconst (v := nI 0) (pc := 1) dX0_setDefault_1 rfl ?_
  refine xw_aload_n (pc := 2) dX0_setDefault_2 0 rfl ?_
  refine xw_iload_n (pc := 3) dX0_setDefault_3 1 rfl ?_
  refine xw_iload_n (pc := 4) dX0_setDefault_4 2 rfl ?_
  refine xw_callF (pc := 5) (xr_V (as := [_, _]) ok_X1_setDefault rfl (by decide) q1176 q1177 q1178 (by rw [hx]; rfl) (by rw [hx]; rfl) dX0_setDefault_5 rfl rfl (Nat.le_of_ble_eq_true rfl)) (h) ?_
  intro g1 hc1 hm1
  obtain ⟨t1, t2, t3⟩ := hE g1 hc1
  have t2n : xown g1 out ≠ 0 := by rw [t2]; decide
  refine xw_i2l (pc := 8) dX0_setDefault_8 ?_
  refine xw_last (k := 0) (pc := 9) dX0_setDefault_9 (by simp [-List.getD_eq_getElem?_getD, xE_setI, xsz_setI, xsl_setI, xtag_setI, xown_setI, xlen_setI, xE_setR, xsz_setR, xsl_setR, xtag_setR, xown_setR, xlen_setR, xE_setW, xsz_setW, xsl_setW, xtag_setW, xown_setW, xlen_setW, xi_setR, xi_setW, xr_setI, xr_setW, xww_setI, xww_setR, xi_setI, xr_setR, xww_setW, xE_new, xsz_new, xsl_new, hx, t1, t3, t2n]) (by first | assumption | (simp [-List.getD_eq_getElem?_getD, xE_setI, xsz_setI, xsl_setI, xtag_setI, xown_setI, xlen_setI, xE_setR, xsz_setR, xsl_setR, xtag_setR, xown_setR, xlen_setR, xE_setW, xsz_setW, xsl_setW, xtag_setW, xown_setW, xlen_setW, xi_setR, xi_setW, xr_setI, xr_setW, xww_setI, xww_setR, xi_setI, xr_setR, xww_setW, xE_new, xsz_new, xsl_new, hx, t1, t3, t2n]; done) | (simp [-List.getD_eq_getElem?_getD, xE_setI, xsz_setI, xsl_setI, xtag_setI, xown_setI, xlen_setI, xE_setR, xsz_setR, xsl_setR, xtag_setR, xown_setR, xlen_setR, xE_setW, xsz_setW, xsl_setW, xtag_setW, xown_setW, xlen_setW, xi_setR, xi_setW, xr_setI, xr_setW, xww_setI, xww_setR, xi_setI, xr_setR, xww_setW, xE_new, xsz_new, xsl_new, hx, t1, t3, t2n]; assumption)) rfl (by rw [t3]; decide) ?_
  refine xw_goto (pc := 10) 21 dX0_setDefault_10 rfl ?_
  refine xw_iconst (v := nI 0) (pc := 21) dX0_setDefault_21 rfl ?_
  refine xw_iret (pc := 22) .int dX0_setDefault_22 rfl ?_ 
  exact ⟨rfl, g1, hc1, rfl⟩

theorem SP_X0_setDefault_23 {d : Nat} {g : xG} {x out : Nat} {p0 p1 : Int32} {E : xG → Prop} (hx : xtag g x = 1) (h : XM M_X1_setDefault (d + 90) [.ref x, .int p0, .int p1] g (xErr 23 E)) : XM M_X0_setDefault (d + 91) [.ref x, .int p0, .int p1, .ref out] g (xVal (.int (nI 1)) E) := by
  refine xm_of (by decide +kernel) (Nat.le_of_ble_eq_true rfl) ?_
  show XW _ _ 0 [(0, _), (1, _), (2, _), (3, _)] [] _ _
  refine xw_aload_n (pc := 0) dX0_setDefault_0 3 rfl ?_
  refine xw_iconst (v := nI 0) (pc := 1) dX0_setDefault_1 rfl ?_
  refine xw_aload_n (pc := 2) dX0_setDefault_2 0 rfl ?_
  refine xw_iload_n (pc := 3) dX0_setDefault_3 1 rfl ?_
  refine xw_iload_n (pc := 4) dX0_setDefault_4 2 rfl ?_
  refine xw_call (pc := 5) (xr_V (as := [_, _]) ok_X1_setDefault rfl (by decide) q1176 q1177 q1178 (by rw [hx]; rfl) (by rw [hx]; rfl) dX0_setDefault_5 rfl rfl (Nat.le_of_ble_eq_true rfl)) (h) ?_
  intro rs g1 hc1 hm1
  obtain ⟨q, rfl, q1, q2, q3⟩ := hc1
  refine xx_catch [] (0, 10, 13, 13) [(0, 10, 17, 21)] rfl (fun z hz => by cases hz) (cvE (by decide) (by decide)) (by decide) q1032 (by rw [q1]; exact q1070) (by rw [q1]; decide) (by rw [q1]; decide) (by rw [q2]; decide) ?_
  refine xw_astore (l' := [(4, _), (0, _), (1, _), (2, _), (3, _)]) (pc := 13) dX0_setDefault_13 (by decide) rfl ?_
  refine xw_iconst (v := nI 1) (pc := 15) dX0_setDefault_15 rfl ?_
  refine xw_iret (pc := 16) .int dX0_setDefault_16 rfl ?_ 
  exact ⟨rfl, q3⟩

theorem SP_X0_setDefault_22 {d : Nat} {g : xG} {x out : Nat} {p0 p1 : Int32} {E : xG → Prop} (hx : xtag g x = 1) (h : XM M_X1_setDefault (d + 90) [.ref x, .int p0, .int p1] g (xErr 22 E)) : XM M_X0_setDefault (d + 91) [.ref x, .int p0, .int p1, .ref out] g (xVal (.int (nI 2)) E) := by
  refine xm_of (by decide +kernel) (Nat.le_of_ble_eq_true rfl) ?_
  show XW _ _ 0 [(0, _), (1, _), (2, _), (3, _)] [] _ _
  refine xw_aload_n (pc := 0) dX0_setDefault_0 3 rfl ?_
  refine xw_iconst (v := nI 0) (pc := 1) dX0_setDefault_1 rfl ?_
  refine xw_aload_n (pc := 2) dX0_setDefault_2 0 rfl ?_
  refine xw_iload_n (pc := 3) dX0_setDefault_3 1 rfl ?_
  refine xw_iload_n (pc := 4) dX0_setDefault_4 2 rfl ?_
  refine xw_call (pc := 5) (xr_V (as := [_, _]) ok_X1_setDefault rfl (by decide) q1176 q1177 q1178 (by rw [hx]; rfl) (by rw [hx]; rfl) dX0_setDefault_5 rfl rfl (Nat.le_of_ble_eq_true rfl)) (h) ?_
  intro rs g1 hc1 hm1
  obtain ⟨q, rfl, q1, q2, q3⟩ := hc1
  have hp : ∀ z ∈ [((0 : Nat), (10 : Nat), (13 : Nat), (13 : Nat))], xNot "PolicyNotationLaw" 5 (xcn (xtag g1 q)) z := by
    intro z hz
    rw [q1]
    have hz2 : z = (0, 10, 13, 13) := by simpa using hz
    subst hz2
    exact Or.inr ⟨by decide, _, q1032, by decide +kernel⟩
  refine xx_catch [(0, 10, 13, 13)] (0, 10, 17, 21) [] rfl hp (cvE (by decide) (by decide)) (by decide) q1175 (by rw [q1]; exact q175) (by rw [q1]; decide) (by rw [q1]; decide) (by rw [q2]; decide) ?_
  refine xw_astore (l' := [(4, _), (0, _), (1, _), (2, _), (3, _)]) (pc := 17) dX0_setDefault_17 (by decide) rfl ?_
  refine xw_iconst (v := nI 2) (pc := 19) dX0_setDefault_19 rfl ?_
  refine xw_iret (pc := 20) .int dX0_setDefault_20 rfl ?_ 
  exact ⟨rfl, q3⟩

theorem SP_X0_scopeOf_ok {d : Nat} {g : xG} {x out : Nat} {p0 p1 : Int32} {E : xG → Prop} (hx : xtag g x = 1) (hE : ∀ g', E g' → xtag g' out = 106 ∧ xown g' out = 4 ∧ xlen g' out = 1) {v : Int32} (h : XM M_X1_scopeOf (d + 90) [.ref x, .int p0, .int p1] g (xVal (.int v) E)) : XM M_X0_scopeOf (d + 91) [.ref x, .int p0, .int p1, .ref out] g (xVal (.int (nI 0)) (fun g' => ∃ g1, E g1 ∧ g' = xsetW g1 out 0 (v.toInt64.toUInt64))) := by
  refine xm_of (by decide +kernel) (Nat.le_of_ble_eq_true rfl) ?_
  show XW _ _ 0 [(0, _), (1, _), (2, _), (3, _)] [] _ _
  refine xw_aload_n (pc := 0) dX0_scopeOf_0 3 rfl ?_
  refine xw_iconst (v := nI 0) (pc := 1) dX0_scopeOf_1 rfl ?_
  refine xw_aload_n (pc := 2) dX0_scopeOf_2 0 rfl ?_
  refine xw_iload_n (pc := 3) dX0_scopeOf_3 1 rfl ?_
  refine xw_iload_n (pc := 4) dX0_scopeOf_4 2 rfl ?_
  refine xw_callF (pc := 5) (xr_V (as := [_, _]) ok_X1_scopeOf rfl (by decide) q1218 q1219 q1220 (by rw [hx]; rfl) (by rw [hx]; rfl) dX0_scopeOf_5 rfl rfl (Nat.le_of_ble_eq_true rfl)) (h) ?_
  intro g1 hc1 hm1
  obtain ⟨t1, t2, t3⟩ := hE g1 hc1
  have t2n : xown g1 out ≠ 0 := by rw [t2]; decide
  refine xw_i2l (pc := 8) dX0_scopeOf_8 ?_
  refine xw_last (k := 0) (pc := 9) dX0_scopeOf_9 (by simp [-List.getD_eq_getElem?_getD, xE_setI, xsz_setI, xsl_setI, xtag_setI, xown_setI, xlen_setI, xE_setR, xsz_setR, xsl_setR, xtag_setR, xown_setR, xlen_setR, xE_setW, xsz_setW, xsl_setW, xtag_setW, xown_setW, xlen_setW, xi_setR, xi_setW, xr_setI, xr_setW, xww_setI, xww_setR, xi_setI, xr_setR, xww_setW, xE_new, xsz_new, xsl_new, hx, t1, t3, t2n]) (by first | assumption | (simp [-List.getD_eq_getElem?_getD, xE_setI, xsz_setI, xsl_setI, xtag_setI, xown_setI, xlen_setI, xE_setR, xsz_setR, xsl_setR, xtag_setR, xown_setR, xlen_setR, xE_setW, xsz_setW, xsl_setW, xtag_setW, xown_setW, xlen_setW, xi_setR, xi_setW, xr_setI, xr_setW, xww_setI, xww_setR, xi_setI, xr_setR, xww_setW, xE_new, xsz_new, xsl_new, hx, t1, t3, t2n]; done) | (simp [-List.getD_eq_getElem?_getD, xE_setI, xsz_setI, xsl_setI, xtag_setI, xown_setI, xlen_setI, xE_setR, xsz_setR, xsl_setR, xtag_setR, xown_setR, xlen_setR, xE_setW, xsz_setW, xsl_setW, xtag_setW, xown_setW, xlen_setW, xi_setR, xi_setW, xr_setI, xr_setW, xww_setI, xww_setR, xi_setI, xr_setR, xww_setW, xE_new, xsz_new, xsl_new, hx, t1, t3, t2n]; assumption)) rfl (by rw [t3]; decide) ?_
  refine xw_goto (pc := 10) 21 dX0_scopeOf_10 rfl ?_
  refine xw_iconst (v := nI 0) (pc := 21) dX0_scopeOf_21 rfl ?_
  refine xw_iret (pc := 22) .int dX0_scopeOf_22 rfl ?_ 
  exact ⟨rfl, g1, hc1, rfl⟩

theorem SP_X0_scopeOf_23 {d : Nat} {g : xG} {x out : Nat} {p0 p1 : Int32} {E : xG → Prop} (hx : xtag g x = 1) (h : XM M_X1_scopeOf (d + 90) [.ref x, .int p0, .int p1] g (xErr 23 E)) : XM M_X0_scopeOf (d + 91) [.ref x, .int p0, .int p1, .ref out] g (xVal (.int (nI 1)) E) := by
  refine xm_of (by decide +kernel) (Nat.le_of_ble_eq_true rfl) ?_
  show XW _ _ 0 [(0, _), (1, _), (2, _), (3, _)] [] _ _
  refine xw_aload_n (pc := 0) dX0_scopeOf_0 3 rfl ?_
  refine xw_iconst (v := nI 0) (pc := 1) dX0_scopeOf_1 rfl ?_
  refine xw_aload_n (pc := 2) dX0_scopeOf_2 0 rfl ?_
  refine xw_iload_n (pc := 3) dX0_scopeOf_3 1 rfl ?_
  refine xw_iload_n (pc := 4) dX0_scopeOf_4 2 rfl ?_
  refine xw_call (pc := 5) (xr_V (as := [_, _]) ok_X1_scopeOf rfl (by decide) q1218 q1219 q1220 (by rw [hx]; rfl) (by rw [hx]; rfl) dX0_scopeOf_5 rfl rfl (Nat.le_of_ble_eq_true rfl)) (h) ?_
  intro rs g1 hc1 hm1
  obtain ⟨q, rfl, q1, q2, q3⟩ := hc1
  refine xx_catch [] (0, 10, 13, 13) [(0, 10, 17, 21)] rfl (fun z hz => by cases hz) (cvE (by decide) (by decide)) (by decide) q1032 (by rw [q1]; exact q1070) (by rw [q1]; decide) (by rw [q1]; decide) (by rw [q2]; decide) ?_
  refine xw_astore (l' := [(4, _), (0, _), (1, _), (2, _), (3, _)]) (pc := 13) dX0_scopeOf_13 (by decide) rfl ?_
  refine xw_iconst (v := nI 1) (pc := 15) dX0_scopeOf_15 rfl ?_
  refine xw_iret (pc := 16) .int dX0_scopeOf_16 rfl ?_ 
  exact ⟨rfl, q3⟩

theorem SP_X0_scopeOf_22 {d : Nat} {g : xG} {x out : Nat} {p0 p1 : Int32} {E : xG → Prop} (hx : xtag g x = 1) (h : XM M_X1_scopeOf (d + 90) [.ref x, .int p0, .int p1] g (xErr 22 E)) : XM M_X0_scopeOf (d + 91) [.ref x, .int p0, .int p1, .ref out] g (xVal (.int (nI 2)) E) := by
  refine xm_of (by decide +kernel) (Nat.le_of_ble_eq_true rfl) ?_
  show XW _ _ 0 [(0, _), (1, _), (2, _), (3, _)] [] _ _
  refine xw_aload_n (pc := 0) dX0_scopeOf_0 3 rfl ?_
  refine xw_iconst (v := nI 0) (pc := 1) dX0_scopeOf_1 rfl ?_
  refine xw_aload_n (pc := 2) dX0_scopeOf_2 0 rfl ?_
  refine xw_iload_n (pc := 3) dX0_scopeOf_3 1 rfl ?_
  refine xw_iload_n (pc := 4) dX0_scopeOf_4 2 rfl ?_
  refine xw_call (pc := 5) (xr_V (as := [_, _]) ok_X1_scopeOf rfl (by decide) q1218 q1219 q1220 (by rw [hx]; rfl) (by rw [hx]; rfl) dX0_scopeOf_5 rfl rfl (Nat.le_of_ble_eq_true rfl)) (h) ?_
  intro rs g1 hc1 hm1
  obtain ⟨q, rfl, q1, q2, q3⟩ := hc1
  have hp : ∀ z ∈ [((0 : Nat), (10 : Nat), (13 : Nat), (13 : Nat))], xNot "PolicyNotationLaw" 5 (xcn (xtag g1 q)) z := by
    intro z hz
    rw [q1]
    have hz2 : z = (0, 10, 13, 13) := by simpa using hz
    subst hz2
    exact Or.inr ⟨by decide, _, q1032, by decide +kernel⟩
  refine xx_catch [(0, 10, 13, 13)] (0, 10, 17, 21) [] rfl hp (cvE (by decide) (by decide)) (by decide) q1175 (by rw [q1]; exact q175) (by rw [q1]; decide) (by rw [q1]; decide) (by rw [q2]; decide) ?_
  refine xw_astore (l' := [(4, _), (0, _), (1, _), (2, _), (3, _)]) (pc := 17) dX0_scopeOf_17 (by decide) rfl ?_
  refine xw_iconst (v := nI 2) (pc := 19) dX0_scopeOf_19 rfl ?_
  refine xw_iret (pc := 20) .int dX0_scopeOf_20 rfl ?_ 
  exact ⟨rfl, q3⟩

theorem SP_X0_isWithin_ok1 {d : Nat} {g : xG} {x out : Nat} {p0 p1 : Int32} {E : xG → Prop} (hx : xtag g x = 1) (hE : ∀ g', E g' → xtag g' out = 106 ∧ xown g' out = 4 ∧ xlen g' out = 1) (h : XM M_X1_isWithin (d + 90) [.ref x, .int p0, .int p1] g (xVal (.int (bI true)) E)) : XM M_X0_isWithin (d + 91) [.ref x, .int p0, .int p1, .ref out] g (xVal (.int (nI 0)) (fun g' => ∃ g1, E g1 ∧ g' = xsetW g1 out 0 ((1 : Int64).toUInt64))) := by
  refine xm_of (by decide +kernel) (Nat.le_of_ble_eq_true rfl) ?_
  show XW _ _ 0 [(0, _), (1, _), (2, _), (3, _)] [] _ _
  refine xw_aload_n (pc := 0) dX0_isWithin_0 3 rfl ?_
  refine xw_iconst (v := nI 0) (pc := 1) dX0_isWithin_1 rfl ?_
  refine xw_aload_n (pc := 2) dX0_isWithin_2 0 rfl ?_
  refine xw_iload_n (pc := 3) dX0_isWithin_3 1 rfl ?_
  refine xw_iload_n (pc := 4) dX0_isWithin_4 2 rfl ?_
  refine xw_callF (pc := 5) (xr_V (as := [_, _]) ok_X1_isWithin rfl (by decide) q1247 q1248 q1249 (by rw [hx]; rfl) (by rw [hx]; rfl) dX0_isWithin_5 rfl rfl (Nat.le_of_ble_eq_true rfl)) (h) ?_
  intro g1 hc1 hm1
  obtain ⟨t1, t2, t3⟩ := hE g1 hc1
  have t2n : xown g1 out ≠ 0 := by rw [t2]; decide
  refine xw_if_eq (pc := 8) 15 dX0_isWithin_8 rfl (fun hb => absurd hb (by decide)) (fun _ => ?_)
  refine xw_lconst (v := 1) (pc := 11) dX0_isWithin_11 (by decide) ?_
  refine xw_goto (pc := 12) 16 dX0_isWithin_12 rfl ?_
  refine xw_last (k := 0) (pc := 16) dX0_isWithin_16 (by simp [-List.getD_eq_getElem?_getD, xE_setI, xsz_setI, xsl_setI, xtag_setI, xown_setI, xlen_setI, xE_setR, xsz_setR, xsl_setR, xtag_setR, xown_setR, xlen_setR, xE_setW, xsz_setW, xsl_setW, xtag_setW, xown_setW, xlen_setW, xi_setR, xi_setW, xr_setI, xr_setW, xww_setI, xww_setR, xi_setI, xr_setR, xww_setW, xE_new, xsz_new, xsl_new, hx, t1, t3, t2n]) (by first | assumption | (simp [-List.getD_eq_getElem?_getD, xE_setI, xsz_setI, xsl_setI, xtag_setI, xown_setI, xlen_setI, xE_setR, xsz_setR, xsl_setR, xtag_setR, xown_setR, xlen_setR, xE_setW, xsz_setW, xsl_setW, xtag_setW, xown_setW, xlen_setW, xi_setR, xi_setW, xr_setI, xr_setW, xww_setI, xww_setR, xi_setI, xr_setR, xww_setW, xE_new, xsz_new, xsl_new, hx, t1, t3, t2n]; done) | (simp [-List.getD_eq_getElem?_getD, xE_setI, xsz_setI, xsl_setI, xtag_setI, xown_setI, xlen_setI, xE_setR, xsz_setR, xsl_setR, xtag_setR, xown_setR, xlen_setR, xE_setW, xsz_setW, xsl_setW, xtag_setW, xown_setW, xlen_setW, xi_setR, xi_setW, xr_setI, xr_setW, xww_setI, xww_setR, xi_setI, xr_setR, xww_setW, xE_new, xsz_new, xsl_new, hx, t1, t3, t2n]; assumption)) rfl (by rw [t3]; decide) ?_
  refine xw_goto (pc := 17) 24 dX0_isWithin_17 rfl ?_
  refine xw_iconst (v := nI 0) (pc := 24) dX0_isWithin_24 rfl ?_
  refine xw_iret (pc := 25) .int dX0_isWithin_25 rfl ?_ 
  exact ⟨rfl, g1, hc1, rfl⟩

theorem SP_X0_isWithin_ok0 {d : Nat} {g : xG} {x out : Nat} {p0 p1 : Int32} {E : xG → Prop} (hx : xtag g x = 1) (hE : ∀ g', E g' → xtag g' out = 106 ∧ xown g' out = 4 ∧ xlen g' out = 1) (h : XM M_X1_isWithin (d + 90) [.ref x, .int p0, .int p1] g (xVal (.int (bI false)) E)) : XM M_X0_isWithin (d + 91) [.ref x, .int p0, .int p1, .ref out] g (xVal (.int (nI 0)) (fun g' => ∃ g1, E g1 ∧ g' = xsetW g1 out 0 ((0 : Int64).toUInt64))) := by
  refine xm_of (by decide +kernel) (Nat.le_of_ble_eq_true rfl) ?_
  show XW _ _ 0 [(0, _), (1, _), (2, _), (3, _)] [] _ _
  refine xw_aload_n (pc := 0) dX0_isWithin_0 3 rfl ?_
  refine xw_iconst (v := nI 0) (pc := 1) dX0_isWithin_1 rfl ?_
  refine xw_aload_n (pc := 2) dX0_isWithin_2 0 rfl ?_
  refine xw_iload_n (pc := 3) dX0_isWithin_3 1 rfl ?_
  refine xw_iload_n (pc := 4) dX0_isWithin_4 2 rfl ?_
  refine xw_callF (pc := 5) (xr_V (as := [_, _]) ok_X1_isWithin rfl (by decide) q1247 q1248 q1249 (by rw [hx]; rfl) (by rw [hx]; rfl) dX0_isWithin_5 rfl rfl (Nat.le_of_ble_eq_true rfl)) (h) ?_
  intro g1 hc1 hm1
  obtain ⟨t1, t2, t3⟩ := hE g1 hc1
  have t2n : xown g1 out ≠ 0 := by rw [t2]; decide
  refine xw_if_eq (pc := 8) 15 dX0_isWithin_8 rfl (fun _ => ?_) (fun hb => absurd hb (by decide))
  refine xw_lconst (v := 0) (pc := 15) dX0_isWithin_15 (by decide) ?_
  refine xw_last (k := 0) (pc := 16) dX0_isWithin_16 (by simp [-List.getD_eq_getElem?_getD, xE_setI, xsz_setI, xsl_setI, xtag_setI, xown_setI, xlen_setI, xE_setR, xsz_setR, xsl_setR, xtag_setR, xown_setR, xlen_setR, xE_setW, xsz_setW, xsl_setW, xtag_setW, xown_setW, xlen_setW, xi_setR, xi_setW, xr_setI, xr_setW, xww_setI, xww_setR, xi_setI, xr_setR, xww_setW, xE_new, xsz_new, xsl_new, hx, t1, t3, t2n]) (by first | assumption | (simp [-List.getD_eq_getElem?_getD, xE_setI, xsz_setI, xsl_setI, xtag_setI, xown_setI, xlen_setI, xE_setR, xsz_setR, xsl_setR, xtag_setR, xown_setR, xlen_setR, xE_setW, xsz_setW, xsl_setW, xtag_setW, xown_setW, xlen_setW, xi_setR, xi_setW, xr_setI, xr_setW, xww_setI, xww_setR, xi_setI, xr_setR, xww_setW, xE_new, xsz_new, xsl_new, hx, t1, t3, t2n]; done) | (simp [-List.getD_eq_getElem?_getD, xE_setI, xsz_setI, xsl_setI, xtag_setI, xown_setI, xlen_setI, xE_setR, xsz_setR, xsl_setR, xtag_setR, xown_setR, xlen_setR, xE_setW, xsz_setW, xsl_setW, xtag_setW, xown_setW, xlen_setW, xi_setR, xi_setW, xr_setI, xr_setW, xww_setI, xww_setR, xi_setI, xr_setR, xww_setW, xE_new, xsz_new, xsl_new, hx, t1, t3, t2n]; assumption)) rfl (by rw [t3]; decide) ?_
  refine xw_goto (pc := 17) 24 dX0_isWithin_17 rfl ?_
  refine xw_iconst (v := nI 0) (pc := 24) dX0_isWithin_24 rfl ?_
  refine xw_iret (pc := 25) .int dX0_isWithin_25 rfl ?_ 
  exact ⟨rfl, g1, hc1, rfl⟩

theorem SP_X0_isWithin_ok {d : Nat} {g : xG} {x out : Nat} {p0 p1 : Int32} {E : xG → Prop} (hx : xtag g x = 1) (hE : ∀ g', E g' → xtag g' out = 106 ∧ xown g' out = 4 ∧ xlen g' out = 1) {v : Bool} (h : XM M_X1_isWithin (d + 90) [.ref x, .int p0, .int p1] g (xVal (.int (bI v)) E)) : XM M_X0_isWithin (d + 91) [.ref x, .int p0, .int p1, .ref out] g (xVal (.int (nI 0)) (fun g' => ∃ g1, E g1 ∧ g' = xsetW g1 out 0 ((if v then 1 else 0 : Int64).toUInt64))) := by
  cases v with
  | true => exact SP_X0_isWithin_ok1 hx hE h
  | false => exact SP_X0_isWithin_ok0 hx hE h
theorem SP_X0_isWithin_23 {d : Nat} {g : xG} {x out : Nat} {p0 p1 : Int32} {E : xG → Prop} (hx : xtag g x = 1) (h : XM M_X1_isWithin (d + 90) [.ref x, .int p0, .int p1] g (xErr 23 E)) : XM M_X0_isWithin (d + 91) [.ref x, .int p0, .int p1, .ref out] g (xVal (.int (nI 1)) E) := by
  refine xm_of (by decide +kernel) (Nat.le_of_ble_eq_true rfl) ?_
  show XW _ _ 0 [(0, _), (1, _), (2, _), (3, _)] [] _ _
  refine xw_aload_n (pc := 0) dX0_isWithin_0 3 rfl ?_
  refine xw_iconst (v := nI 0) (pc := 1) dX0_isWithin_1 rfl ?_
  refine xw_aload_n (pc := 2) dX0_isWithin_2 0 rfl ?_
  refine xw_iload_n (pc := 3) dX0_isWithin_3 1 rfl ?_
  refine xw_iload_n (pc := 4) dX0_isWithin_4 2 rfl ?_
  refine xw_call (pc := 5) (xr_V (as := [_, _]) ok_X1_isWithin rfl (by decide) q1247 q1248 q1249 (by rw [hx]; rfl) (by rw [hx]; rfl) dX0_isWithin_5 rfl rfl (Nat.le_of_ble_eq_true rfl)) (h) ?_
  intro rs g1 hc1 hm1
  obtain ⟨q, rfl, q1, q2, q3⟩ := hc1
  refine xx_catch [] (0, 17, 20, 13) [] rfl (fun z hz => by cases hz) (cvE (by decide) (by decide)) (by decide) q1032 (by rw [q1]; exact q1070) (by rw [q1]; decide) (by rw [q1]; decide) (by rw [q2]; decide) ?_
  refine xw_astore (l' := [(4, _), (0, _), (1, _), (2, _), (3, _)]) (pc := 20) dX0_isWithin_20 (by decide) rfl ?_
  refine xw_iconst (v := nI 1) (pc := 22) dX0_isWithin_22 rfl ?_
  refine xw_iret (pc := 23) .int dX0_isWithin_23 rfl ?_ 
  exact ⟨rfl, q3⟩

theorem SP_X0_rule_ok {d : Nat} {g : xG} {x out : Nat} {p0 p1 p2 p3 p4 : Int32} {E : xG → Prop} (hx : xtag g x = 1) (hE : ∀ g', E g' → xtag g' out = 106 ∧ xown g' out = 4 ∧ xlen g' out = 1) {v : Int32} (h : XM M_X1_rule (d + 90) [.ref x, .int p0, .int p1, .int p2, .int p3, .int p4] g (xVal (.int v) E)) : XM M_X0_rule (d + 91) [.ref x, .int p0, .int p1, .int p2, .int p3, .int p4, .ref out] g (xVal (.int (nI 0)) (fun g' => ∃ g1, E g1 ∧ g' = xsetW g1 out 0 (v.toInt64.toUInt64))) := by
  refine xm_of (by decide +kernel) (Nat.le_of_ble_eq_true rfl) ?_
  show XW _ _ 0 [(0, _), (1, _), (2, _), (3, _), (4, _), (5, _), (6, _)] [] _ _
  refine xw_aload (pc := 0) dX0_rule_0 6 rfl ?_
  refine xw_iconst (v := nI 0) (pc := 2) dX0_rule_2 rfl ?_
  refine xw_aload_n (pc := 3) dX0_rule_3 0 rfl ?_
  refine xw_iload_n (pc := 4) dX0_rule_4 1 rfl ?_
  refine xw_iload_n (pc := 5) dX0_rule_5 2 rfl ?_
  refine xw_iload_n (pc := 6) dX0_rule_6 3 rfl ?_
  refine xw_iload (pc := 7) dX0_rule_7 4 rfl ?_
  refine xw_iload (pc := 9) dX0_rule_9 5 rfl ?_
  refine xw_callF (pc := 11) (xr_V (as := [_, _, _, _, _]) ok_X1_rule rfl (by decide) q1258 q1259 q1260 (by rw [hx]; rfl) (by rw [hx]; rfl) dX0_rule_11 rfl rfl (Nat.le_of_ble_eq_true rfl)) (h) ?_
  intro g1 hc1 hm1
  obtain ⟨t1, t2, t3⟩ := hE g1 hc1
  have t2n : xown g1 out ≠ 0 := by rw [t2]; decide
  refine xw_i2l (pc := 14) dX0_rule_14 ?_
  refine xw_last (k := 0) (pc := 15) dX0_rule_15 (by simp [-List.getD_eq_getElem?_getD, xE_setI, xsz_setI, xsl_setI, xtag_setI, xown_setI, xlen_setI, xE_setR, xsz_setR, xsl_setR, xtag_setR, xown_setR, xlen_setR, xE_setW, xsz_setW, xsl_setW, xtag_setW, xown_setW, xlen_setW, xi_setR, xi_setW, xr_setI, xr_setW, xww_setI, xww_setR, xi_setI, xr_setR, xww_setW, xE_new, xsz_new, xsl_new, hx, t1, t3, t2n]) (by first | assumption | (simp [-List.getD_eq_getElem?_getD, xE_setI, xsz_setI, xsl_setI, xtag_setI, xown_setI, xlen_setI, xE_setR, xsz_setR, xsl_setR, xtag_setR, xown_setR, xlen_setR, xE_setW, xsz_setW, xsl_setW, xtag_setW, xown_setW, xlen_setW, xi_setR, xi_setW, xr_setI, xr_setW, xww_setI, xww_setR, xi_setI, xr_setR, xww_setW, xE_new, xsz_new, xsl_new, hx, t1, t3, t2n]; done) | (simp [-List.getD_eq_getElem?_getD, xE_setI, xsz_setI, xsl_setI, xtag_setI, xown_setI, xlen_setI, xE_setR, xsz_setR, xsl_setR, xtag_setR, xown_setR, xlen_setR, xE_setW, xsz_setW, xsl_setW, xtag_setW, xown_setW, xlen_setW, xi_setR, xi_setW, xr_setI, xr_setW, xww_setI, xww_setR, xi_setI, xr_setR, xww_setW, xE_new, xsz_new, xsl_new, hx, t1, t3, t2n]; assumption)) rfl (by rw [t3]; decide) ?_
  refine xw_goto (pc := 16) 31 dX0_rule_16 rfl ?_
  refine xw_iconst (v := nI 0) (pc := 31) dX0_rule_31 rfl ?_
  refine xw_iret (pc := 32) .int dX0_rule_32 rfl ?_ 
  exact ⟨rfl, g1, hc1, rfl⟩

theorem SP_X0_rule_23 {d : Nat} {g : xG} {x out : Nat} {p0 p1 p2 p3 p4 : Int32} {E : xG → Prop} (hx : xtag g x = 1) (h : XM M_X1_rule (d + 90) [.ref x, .int p0, .int p1, .int p2, .int p3, .int p4] g (xErr 23 E)) : XM M_X0_rule (d + 91) [.ref x, .int p0, .int p1, .int p2, .int p3, .int p4, .ref out] g (xVal (.int (nI 1)) E) := by
  refine xm_of (by decide +kernel) (Nat.le_of_ble_eq_true rfl) ?_
  show XW _ _ 0 [(0, _), (1, _), (2, _), (3, _), (4, _), (5, _), (6, _)] [] _ _
  refine xw_aload (pc := 0) dX0_rule_0 6 rfl ?_
  refine xw_iconst (v := nI 0) (pc := 2) dX0_rule_2 rfl ?_
  refine xw_aload_n (pc := 3) dX0_rule_3 0 rfl ?_
  refine xw_iload_n (pc := 4) dX0_rule_4 1 rfl ?_
  refine xw_iload_n (pc := 5) dX0_rule_5 2 rfl ?_
  refine xw_iload_n (pc := 6) dX0_rule_6 3 rfl ?_
  refine xw_iload (pc := 7) dX0_rule_7 4 rfl ?_
  refine xw_iload (pc := 9) dX0_rule_9 5 rfl ?_
  refine xw_call (pc := 11) (xr_V (as := [_, _, _, _, _]) ok_X1_rule rfl (by decide) q1258 q1259 q1260 (by rw [hx]; rfl) (by rw [hx]; rfl) dX0_rule_11 rfl rfl (Nat.le_of_ble_eq_true rfl)) (h) ?_
  intro rs g1 hc1 hm1
  obtain ⟨q, rfl, q1, q2, q3⟩ := hc1
  refine xx_catch [] (0, 16, 19, 13) [(0, 16, 23, 21), (0, 16, 27, 34)] rfl (fun z hz => by cases hz) (cvE (by decide) (by decide)) (by decide) q1032 (by rw [q1]; exact q1070) (by rw [q1]; decide) (by rw [q1]; decide) (by rw [q2]; decide) ?_
  refine xw_astore (l' := [(7, _), (0, _), (1, _), (2, _), (3, _), (4, _), (5, _), (6, _)]) (pc := 19) dX0_rule_19 (by decide) rfl ?_
  refine xw_iconst (v := nI 1) (pc := 21) dX0_rule_21 rfl ?_
  refine xw_iret (pc := 22) .int dX0_rule_22 rfl ?_ 
  exact ⟨rfl, q3⟩

theorem SP_X0_rule_22 {d : Nat} {g : xG} {x out : Nat} {p0 p1 p2 p3 p4 : Int32} {E : xG → Prop} (hx : xtag g x = 1) (h : XM M_X1_rule (d + 90) [.ref x, .int p0, .int p1, .int p2, .int p3, .int p4] g (xErr 22 E)) : XM M_X0_rule (d + 91) [.ref x, .int p0, .int p1, .int p2, .int p3, .int p4, .ref out] g (xVal (.int (nI 2)) E) := by
  refine xm_of (by decide +kernel) (Nat.le_of_ble_eq_true rfl) ?_
  show XW _ _ 0 [(0, _), (1, _), (2, _), (3, _), (4, _), (5, _), (6, _)] [] _ _
  refine xw_aload (pc := 0) dX0_rule_0 6 rfl ?_
  refine xw_iconst (v := nI 0) (pc := 2) dX0_rule_2 rfl ?_
  refine xw_aload_n (pc := 3) dX0_rule_3 0 rfl ?_
  refine xw_iload_n (pc := 4) dX0_rule_4 1 rfl ?_
  refine xw_iload_n (pc := 5) dX0_rule_5 2 rfl ?_
  refine xw_iload_n (pc := 6) dX0_rule_6 3 rfl ?_
  refine xw_iload (pc := 7) dX0_rule_7 4 rfl ?_
  refine xw_iload (pc := 9) dX0_rule_9 5 rfl ?_
  refine xw_call (pc := 11) (xr_V (as := [_, _, _, _, _]) ok_X1_rule rfl (by decide) q1258 q1259 q1260 (by rw [hx]; rfl) (by rw [hx]; rfl) dX0_rule_11 rfl rfl (Nat.le_of_ble_eq_true rfl)) (h) ?_
  intro rs g1 hc1 hm1
  obtain ⟨q, rfl, q1, q2, q3⟩ := hc1
  have hp : ∀ z ∈ [((0 : Nat), (16 : Nat), (19 : Nat), (13 : Nat))], xNot "PolicyNotationLaw" 11 (xcn (xtag g1 q)) z := by
    intro z hz
    rw [q1]
    have hz2 : z = (0, 16, 19, 13) := by simpa using hz
    subst hz2
    exact Or.inr ⟨by decide, _, q1032, by decide +kernel⟩
  refine xx_catch [(0, 16, 19, 13)] (0, 16, 23, 21) [(0, 16, 27, 34)] rfl hp (cvE (by decide) (by decide)) (by decide) q1175 (by rw [q1]; exact q175) (by rw [q1]; decide) (by rw [q1]; decide) (by rw [q2]; decide) ?_
  refine xw_astore (l' := [(7, _), (0, _), (1, _), (2, _), (3, _), (4, _), (5, _), (6, _)]) (pc := 23) dX0_rule_23 (by decide) rfl ?_
  refine xw_iconst (v := nI 2) (pc := 25) dX0_rule_25 rfl ?_
  refine xw_iret (pc := 26) .int dX0_rule_26 rfl ?_ 
  exact ⟨rfl, q3⟩

theorem SP_X0_rule_26 {d : Nat} {g : xG} {x out : Nat} {p0 p1 p2 p3 p4 : Int32} {E : xG → Prop} (hx : xtag g x = 1) (h : XM M_X1_rule (d + 90) [.ref x, .int p0, .int p1, .int p2, .int p3, .int p4] g (xErr 26 E)) : XM M_X0_rule (d + 91) [.ref x, .int p0, .int p1, .int p2, .int p3, .int p4, .ref out] g (xVal (.int (nI 3)) E) := by
  refine xm_of (by decide +kernel) (Nat.le_of_ble_eq_true rfl) ?_
  show XW _ _ 0 [(0, _), (1, _), (2, _), (3, _), (4, _), (5, _), (6, _)] [] _ _
  refine xw_aload (pc := 0) dX0_rule_0 6 rfl ?_
  refine xw_iconst (v := nI 0) (pc := 2) dX0_rule_2 rfl ?_
  refine xw_aload_n (pc := 3) dX0_rule_3 0 rfl ?_
  refine xw_iload_n (pc := 4) dX0_rule_4 1 rfl ?_
  refine xw_iload_n (pc := 5) dX0_rule_5 2 rfl ?_
  refine xw_iload_n (pc := 6) dX0_rule_6 3 rfl ?_
  refine xw_iload (pc := 7) dX0_rule_7 4 rfl ?_
  refine xw_iload (pc := 9) dX0_rule_9 5 rfl ?_
  refine xw_call (pc := 11) (xr_V (as := [_, _, _, _, _]) ok_X1_rule rfl (by decide) q1258 q1259 q1260 (by rw [hx]; rfl) (by rw [hx]; rfl) dX0_rule_11 rfl rfl (Nat.le_of_ble_eq_true rfl)) (h) ?_
  intro rs g1 hc1 hm1
  obtain ⟨q, rfl, q1, q2, q3⟩ := hc1
  have hp : ∀ z ∈ [((0 : Nat), (16 : Nat), (19 : Nat), (13 : Nat)), ((0 : Nat), (16 : Nat), (23 : Nat), (21 : Nat))], xNot "PolicyNotationLaw" 11 (xcn (xtag g1 q)) z := by
    intro z hz
    rw [q1]
    have hz2 : z = (0, 16, 19, 13) ∨ z = (0, 16, 23, 21) := by simpa using hz
    rcases hz2 with rfl | rfl
    · exact Or.inr ⟨by decide, _, q1032, by decide +kernel⟩
    · exact Or.inr ⟨by decide, _, q1175, by decide +kernel⟩
  refine xx_catch [(0, 16, 19, 13), (0, 16, 23, 21)] (0, 16, 27, 34) [] rfl hp (cvE (by decide) (by decide)) (by decide) q1257 (by rw [q1]; exact q1312) (by rw [q1]; decide) (by rw [q1]; decide) (by rw [q2]; decide) ?_
  refine xw_astore (l' := [(7, _), (0, _), (1, _), (2, _), (3, _), (4, _), (5, _), (6, _)]) (pc := 27) dX0_rule_27 (by decide) rfl ?_
  refine xw_iconst (v := nI 3) (pc := 29) dX0_rule_29 rfl ?_
  refine xw_iret (pc := 30) .int dX0_rule_30 rfl ?_ 
  exact ⟨rfl, q3⟩

theorem SP_X0_except_ok {d : Nat} {g : xG} {x out : Nat} {p0 p1 p2 p3 p4 : Int32} {E : xG → Prop} (hx : xtag g x = 1) (hE : ∀ g', E g' → xtag g' out = 106 ∧ xown g' out = 4 ∧ xlen g' out = 1) {v : Int32} (h : XM M_X1_except (d + 90) [.ref x, .int p0, .int p1, .int p2, .int p3, .int p4] g (xVal (.int v) E)) : XM M_X0_except (d + 91) [.ref x, .int p0, .int p1, .int p2, .int p3, .int p4, .ref out] g (xVal (.int (nI 0)) (fun g' => ∃ g1, E g1 ∧ g' = xsetW g1 out 0 (v.toInt64.toUInt64))) := by
  refine xm_of (by decide +kernel) (Nat.le_of_ble_eq_true rfl) ?_
  show XW _ _ 0 [(0, _), (1, _), (2, _), (3, _), (4, _), (5, _), (6, _)] [] _ _
  refine xw_aload (pc := 0) dX0_except_0 6 rfl ?_
  refine xw_iconst (v := nI 0) (pc := 2) dX0_except_2 rfl ?_
  refine xw_aload_n (pc := 3) dX0_except_3 0 rfl ?_
  refine xw_iload_n (pc := 4) dX0_except_4 1 rfl ?_
  refine xw_iload_n (pc := 5) dX0_except_5 2 rfl ?_
  refine xw_iload_n (pc := 6) dX0_except_6 3 rfl ?_
  refine xw_iload (pc := 7) dX0_except_7 4 rfl ?_
  refine xw_iload (pc := 9) dX0_except_9 5 rfl ?_
  refine xw_callF (pc := 11) (xr_V (as := [_, _, _, _, _]) ok_X1_except rfl (by decide) q1334 q1335 q1336 (by rw [hx]; rfl) (by rw [hx]; rfl) dX0_except_11 rfl rfl (Nat.le_of_ble_eq_true rfl)) (h) ?_
  intro g1 hc1 hm1
  obtain ⟨t1, t2, t3⟩ := hE g1 hc1
  have t2n : xown g1 out ≠ 0 := by rw [t2]; decide
  refine xw_i2l (pc := 14) dX0_except_14 ?_
  refine xw_last (k := 0) (pc := 15) dX0_except_15 (by simp [-List.getD_eq_getElem?_getD, xE_setI, xsz_setI, xsl_setI, xtag_setI, xown_setI, xlen_setI, xE_setR, xsz_setR, xsl_setR, xtag_setR, xown_setR, xlen_setR, xE_setW, xsz_setW, xsl_setW, xtag_setW, xown_setW, xlen_setW, xi_setR, xi_setW, xr_setI, xr_setW, xww_setI, xww_setR, xi_setI, xr_setR, xww_setW, xE_new, xsz_new, xsl_new, hx, t1, t3, t2n]) (by first | assumption | (simp [-List.getD_eq_getElem?_getD, xE_setI, xsz_setI, xsl_setI, xtag_setI, xown_setI, xlen_setI, xE_setR, xsz_setR, xsl_setR, xtag_setR, xown_setR, xlen_setR, xE_setW, xsz_setW, xsl_setW, xtag_setW, xown_setW, xlen_setW, xi_setR, xi_setW, xr_setI, xr_setW, xww_setI, xww_setR, xi_setI, xr_setR, xww_setW, xE_new, xsz_new, xsl_new, hx, t1, t3, t2n]; done) | (simp [-List.getD_eq_getElem?_getD, xE_setI, xsz_setI, xsl_setI, xtag_setI, xown_setI, xlen_setI, xE_setR, xsz_setR, xsl_setR, xtag_setR, xown_setR, xlen_setR, xE_setW, xsz_setW, xsl_setW, xtag_setW, xown_setW, xlen_setW, xi_setR, xi_setW, xr_setI, xr_setW, xww_setI, xww_setR, xi_setI, xr_setR, xww_setW, xE_new, xsz_new, xsl_new, hx, t1, t3, t2n]; assumption)) rfl (by rw [t3]; decide) ?_
  refine xw_goto (pc := 16) 31 dX0_except_16 rfl ?_
  refine xw_iconst (v := nI 0) (pc := 31) dX0_except_31 rfl ?_
  refine xw_iret (pc := 32) .int dX0_except_32 rfl ?_ 
  exact ⟨rfl, g1, hc1, rfl⟩

theorem SP_X0_except_23 {d : Nat} {g : xG} {x out : Nat} {p0 p1 p2 p3 p4 : Int32} {E : xG → Prop} (hx : xtag g x = 1) (h : XM M_X1_except (d + 90) [.ref x, .int p0, .int p1, .int p2, .int p3, .int p4] g (xErr 23 E)) : XM M_X0_except (d + 91) [.ref x, .int p0, .int p1, .int p2, .int p3, .int p4, .ref out] g (xVal (.int (nI 1)) E) := by
  refine xm_of (by decide +kernel) (Nat.le_of_ble_eq_true rfl) ?_
  show XW _ _ 0 [(0, _), (1, _), (2, _), (3, _), (4, _), (5, _), (6, _)] [] _ _
  refine xw_aload (pc := 0) dX0_except_0 6 rfl ?_
  refine xw_iconst (v := nI 0) (pc := 2) dX0_except_2 rfl ?_
  refine xw_aload_n (pc := 3) dX0_except_3 0 rfl ?_
  refine xw_iload_n (pc := 4) dX0_except_4 1 rfl ?_
  refine xw_iload_n (pc := 5) dX0_except_5 2 rfl ?_
  refine xw_iload_n (pc := 6) dX0_except_6 3 rfl ?_
  refine xw_iload (pc := 7) dX0_except_7 4 rfl ?_
  refine xw_iload (pc := 9) dX0_except_9 5 rfl ?_
  refine xw_call (pc := 11) (xr_V (as := [_, _, _, _, _]) ok_X1_except rfl (by decide) q1334 q1335 q1336 (by rw [hx]; rfl) (by rw [hx]; rfl) dX0_except_11 rfl rfl (Nat.le_of_ble_eq_true rfl)) (h) ?_
  intro rs g1 hc1 hm1
  obtain ⟨q, rfl, q1, q2, q3⟩ := hc1
  refine xx_catch [] (0, 16, 19, 13) [(0, 16, 23, 21), (0, 16, 27, 34)] rfl (fun z hz => by cases hz) (cvE (by decide) (by decide)) (by decide) q1032 (by rw [q1]; exact q1070) (by rw [q1]; decide) (by rw [q1]; decide) (by rw [q2]; decide) ?_
  refine xw_astore (l' := [(7, _), (0, _), (1, _), (2, _), (3, _), (4, _), (5, _), (6, _)]) (pc := 19) dX0_except_19 (by decide) rfl ?_
  refine xw_iconst (v := nI 1) (pc := 21) dX0_except_21 rfl ?_
  refine xw_iret (pc := 22) .int dX0_except_22 rfl ?_ 
  exact ⟨rfl, q3⟩

theorem SP_X0_except_22 {d : Nat} {g : xG} {x out : Nat} {p0 p1 p2 p3 p4 : Int32} {E : xG → Prop} (hx : xtag g x = 1) (h : XM M_X1_except (d + 90) [.ref x, .int p0, .int p1, .int p2, .int p3, .int p4] g (xErr 22 E)) : XM M_X0_except (d + 91) [.ref x, .int p0, .int p1, .int p2, .int p3, .int p4, .ref out] g (xVal (.int (nI 2)) E) := by
  refine xm_of (by decide +kernel) (Nat.le_of_ble_eq_true rfl) ?_
  show XW _ _ 0 [(0, _), (1, _), (2, _), (3, _), (4, _), (5, _), (6, _)] [] _ _
  refine xw_aload (pc := 0) dX0_except_0 6 rfl ?_
  refine xw_iconst (v := nI 0) (pc := 2) dX0_except_2 rfl ?_
  refine xw_aload_n (pc := 3) dX0_except_3 0 rfl ?_
  refine xw_iload_n (pc := 4) dX0_except_4 1 rfl ?_
  refine xw_iload_n (pc := 5) dX0_except_5 2 rfl ?_
  refine xw_iload_n (pc := 6) dX0_except_6 3 rfl ?_
  refine xw_iload (pc := 7) dX0_except_7 4 rfl ?_
  refine xw_iload (pc := 9) dX0_except_9 5 rfl ?_
  refine xw_call (pc := 11) (xr_V (as := [_, _, _, _, _]) ok_X1_except rfl (by decide) q1334 q1335 q1336 (by rw [hx]; rfl) (by rw [hx]; rfl) dX0_except_11 rfl rfl (Nat.le_of_ble_eq_true rfl)) (h) ?_
  intro rs g1 hc1 hm1
  obtain ⟨q, rfl, q1, q2, q3⟩ := hc1
  have hp : ∀ z ∈ [((0 : Nat), (16 : Nat), (19 : Nat), (13 : Nat))], xNot "PolicyNotationLaw" 11 (xcn (xtag g1 q)) z := by
    intro z hz
    rw [q1]
    have hz2 : z = (0, 16, 19, 13) := by simpa using hz
    subst hz2
    exact Or.inr ⟨by decide, _, q1032, by decide +kernel⟩
  refine xx_catch [(0, 16, 19, 13)] (0, 16, 23, 21) [(0, 16, 27, 34)] rfl hp (cvE (by decide) (by decide)) (by decide) q1175 (by rw [q1]; exact q175) (by rw [q1]; decide) (by rw [q1]; decide) (by rw [q2]; decide) ?_
  refine xw_astore (l' := [(7, _), (0, _), (1, _), (2, _), (3, _), (4, _), (5, _), (6, _)]) (pc := 23) dX0_except_23 (by decide) rfl ?_
  refine xw_iconst (v := nI 2) (pc := 25) dX0_except_25 rfl ?_
  refine xw_iret (pc := 26) .int dX0_except_26 rfl ?_ 
  exact ⟨rfl, q3⟩

theorem SP_X0_except_26 {d : Nat} {g : xG} {x out : Nat} {p0 p1 p2 p3 p4 : Int32} {E : xG → Prop} (hx : xtag g x = 1) (h : XM M_X1_except (d + 90) [.ref x, .int p0, .int p1, .int p2, .int p3, .int p4] g (xErr 26 E)) : XM M_X0_except (d + 91) [.ref x, .int p0, .int p1, .int p2, .int p3, .int p4, .ref out] g (xVal (.int (nI 3)) E) := by
  refine xm_of (by decide +kernel) (Nat.le_of_ble_eq_true rfl) ?_
  show XW _ _ 0 [(0, _), (1, _), (2, _), (3, _), (4, _), (5, _), (6, _)] [] _ _
  refine xw_aload (pc := 0) dX0_except_0 6 rfl ?_
  refine xw_iconst (v := nI 0) (pc := 2) dX0_except_2 rfl ?_
  refine xw_aload_n (pc := 3) dX0_except_3 0 rfl ?_
  refine xw_iload_n (pc := 4) dX0_except_4 1 rfl ?_
  refine xw_iload_n (pc := 5) dX0_except_5 2 rfl ?_
  refine xw_iload_n (pc := 6) dX0_except_6 3 rfl ?_
  refine xw_iload (pc := 7) dX0_except_7 4 rfl ?_
  refine xw_iload (pc := 9) dX0_except_9 5 rfl ?_
  refine xw_call (pc := 11) (xr_V (as := [_, _, _, _, _]) ok_X1_except rfl (by decide) q1334 q1335 q1336 (by rw [hx]; rfl) (by rw [hx]; rfl) dX0_except_11 rfl rfl (Nat.le_of_ble_eq_true rfl)) (h) ?_
  intro rs g1 hc1 hm1
  obtain ⟨q, rfl, q1, q2, q3⟩ := hc1
  have hp : ∀ z ∈ [((0 : Nat), (16 : Nat), (19 : Nat), (13 : Nat)), ((0 : Nat), (16 : Nat), (23 : Nat), (21 : Nat))], xNot "PolicyNotationLaw" 11 (xcn (xtag g1 q)) z := by
    intro z hz
    rw [q1]
    have hz2 : z = (0, 16, 19, 13) ∨ z = (0, 16, 23, 21) := by simpa using hz
    rcases hz2 with rfl | rfl
    · exact Or.inr ⟨by decide, _, q1032, by decide +kernel⟩
    · exact Or.inr ⟨by decide, _, q1175, by decide +kernel⟩
  refine xx_catch [(0, 16, 19, 13), (0, 16, 23, 21)] (0, 16, 27, 34) [] rfl hp (cvE (by decide) (by decide)) (by decide) q1257 (by rw [q1]; exact q1312) (by rw [q1]; decide) (by rw [q1]; decide) (by rw [q2]; decide) ?_
  refine xw_astore (l' := [(7, _), (0, _), (1, _), (2, _), (3, _), (4, _), (5, _), (6, _)]) (pc := 27) dX0_except_27 (by decide) rfl ?_
  refine xw_iconst (v := nI 3) (pc := 29) dX0_except_29 rfl ?_
  refine xw_iret (pc := 30) .int dX0_except_30 rfl ?_ 
  exact ⟨rfl, q3⟩

theorem SP_X0_test_ok {d : Nat} {g : xG} {x out : Nat} {p0 p1 p2 p3 : Int32} {E : xG → Prop} (hx : xtag g x = 1) (hE : ∀ g', E g' → xtag g' out = 106 ∧ xown g' out = 4 ∧ xlen g' out = 1) {v : Int32} (h : XM M_X1_test (d + 90) [.ref x, .int p0, .int p1, .int p2, .int p3] g (xVal (.int v) E)) : XM M_X0_test (d + 91) [.ref x, .int p0, .int p1, .int p2, .int p3, .ref out] g (xVal (.int (nI 0)) (fun g' => ∃ g1, E g1 ∧ g' = xsetW g1 out 0 (v.toInt64.toUInt64))) := by
  refine xm_of (by decide +kernel) (Nat.le_of_ble_eq_true rfl) ?_
  show XW _ _ 0 [(0, _), (1, _), (2, _), (3, _), (4, _), (5, _)] [] _ _
  refine xw_aload (pc := 0) dX0_test_0 5 rfl ?_
  refine xw_iconst (v := nI 0) (pc := 2) dX0_test_2 rfl ?_
  refine xw_aload_n (pc := 3) dX0_test_3 0 rfl ?_
  refine xw_iload_n (pc := 4) dX0_test_4 1 rfl ?_
  refine xw_iload_n (pc := 5) dX0_test_5 2 rfl ?_
  refine xw_iload_n (pc := 6) dX0_test_6 3 rfl ?_
  refine xw_iload (pc := 7) dX0_test_7 4 rfl ?_
  refine xw_callF (pc := 9) (xr_V (as := [_, _, _, _]) ok_X1_test rfl (by decide) q1368 q1369 q1370 (by rw [hx]; rfl) (by rw [hx]; rfl) dX0_test_9 rfl rfl (Nat.le_of_ble_eq_true rfl)) (h) ?_
  intro g1 hc1 hm1
  obtain ⟨t1, t2, t3⟩ := hE g1 hc1
  have t2n : xown g1 out ≠ 0 := by rw [t2]; decide
  refine xw_i2l (pc := 12) dX0_test_12 ?_
  refine xw_last (k := 0) (pc := 13) dX0_test_13 (by simp [-List.getD_eq_getElem?_getD, xE_setI, xsz_setI, xsl_setI, xtag_setI, xown_setI, xlen_setI, xE_setR, xsz_setR, xsl_setR, xtag_setR, xown_setR, xlen_setR, xE_setW, xsz_setW, xsl_setW, xtag_setW, xown_setW, xlen_setW, xi_setR, xi_setW, xr_setI, xr_setW, xww_setI, xww_setR, xi_setI, xr_setR, xww_setW, xE_new, xsz_new, xsl_new, hx, t1, t3, t2n]) (by first | assumption | (simp [-List.getD_eq_getElem?_getD, xE_setI, xsz_setI, xsl_setI, xtag_setI, xown_setI, xlen_setI, xE_setR, xsz_setR, xsl_setR, xtag_setR, xown_setR, xlen_setR, xE_setW, xsz_setW, xsl_setW, xtag_setW, xown_setW, xlen_setW, xi_setR, xi_setW, xr_setI, xr_setW, xww_setI, xww_setR, xi_setI, xr_setR, xww_setW, xE_new, xsz_new, xsl_new, hx, t1, t3, t2n]; done) | (simp [-List.getD_eq_getElem?_getD, xE_setI, xsz_setI, xsl_setI, xtag_setI, xown_setI, xlen_setI, xE_setR, xsz_setR, xsl_setR, xtag_setR, xown_setR, xlen_setR, xE_setW, xsz_setW, xsl_setW, xtag_setW, xown_setW, xlen_setW, xi_setR, xi_setW, xr_setI, xr_setW, xww_setI, xww_setR, xi_setI, xr_setR, xww_setW, xE_new, xsz_new, xsl_new, hx, t1, t3, t2n]; assumption)) rfl (by rw [t3]; decide) ?_
  refine xw_goto (pc := 14) 29 dX0_test_14 rfl ?_
  refine xw_iconst (v := nI 0) (pc := 29) dX0_test_29 rfl ?_
  refine xw_iret (pc := 30) .int dX0_test_30 rfl ?_ 
  exact ⟨rfl, g1, hc1, rfl⟩

theorem SP_X0_test_23 {d : Nat} {g : xG} {x out : Nat} {p0 p1 p2 p3 : Int32} {E : xG → Prop} (hx : xtag g x = 1) (h : XM M_X1_test (d + 90) [.ref x, .int p0, .int p1, .int p2, .int p3] g (xErr 23 E)) : XM M_X0_test (d + 91) [.ref x, .int p0, .int p1, .int p2, .int p3, .ref out] g (xVal (.int (nI 1)) E) := by
  refine xm_of (by decide +kernel) (Nat.le_of_ble_eq_true rfl) ?_
  show XW _ _ 0 [(0, _), (1, _), (2, _), (3, _), (4, _), (5, _)] [] _ _
  refine xw_aload (pc := 0) dX0_test_0 5 rfl ?_
  refine xw_iconst (v := nI 0) (pc := 2) dX0_test_2 rfl ?_
  refine xw_aload_n (pc := 3) dX0_test_3 0 rfl ?_
  refine xw_iload_n (pc := 4) dX0_test_4 1 rfl ?_
  refine xw_iload_n (pc := 5) dX0_test_5 2 rfl ?_
  refine xw_iload_n (pc := 6) dX0_test_6 3 rfl ?_
  refine xw_iload (pc := 7) dX0_test_7 4 rfl ?_
  refine xw_call (pc := 9) (xr_V (as := [_, _, _, _]) ok_X1_test rfl (by decide) q1368 q1369 q1370 (by rw [hx]; rfl) (by rw [hx]; rfl) dX0_test_9 rfl rfl (Nat.le_of_ble_eq_true rfl)) (h) ?_
  intro rs g1 hc1 hm1
  obtain ⟨q, rfl, q1, q2, q3⟩ := hc1
  refine xx_catch [] (0, 14, 17, 13) [(0, 14, 21, 21), (0, 14, 25, 34)] rfl (fun z hz => by cases hz) (cvE (by decide) (by decide)) (by decide) q1032 (by rw [q1]; exact q1070) (by rw [q1]; decide) (by rw [q1]; decide) (by rw [q2]; decide) ?_
  refine xw_astore (l' := [(6, _), (0, _), (1, _), (2, _), (3, _), (4, _), (5, _)]) (pc := 17) dX0_test_17 (by decide) rfl ?_
  refine xw_iconst (v := nI 1) (pc := 19) dX0_test_19 rfl ?_
  refine xw_iret (pc := 20) .int dX0_test_20 rfl ?_ 
  exact ⟨rfl, q3⟩

theorem SP_X0_test_22 {d : Nat} {g : xG} {x out : Nat} {p0 p1 p2 p3 : Int32} {E : xG → Prop} (hx : xtag g x = 1) (h : XM M_X1_test (d + 90) [.ref x, .int p0, .int p1, .int p2, .int p3] g (xErr 22 E)) : XM M_X0_test (d + 91) [.ref x, .int p0, .int p1, .int p2, .int p3, .ref out] g (xVal (.int (nI 2)) E) := by
  refine xm_of (by decide +kernel) (Nat.le_of_ble_eq_true rfl) ?_
  show XW _ _ 0 [(0, _), (1, _), (2, _), (3, _), (4, _), (5, _)] [] _ _
  refine xw_aload (pc := 0) dX0_test_0 5 rfl ?_
  refine xw_iconst (v := nI 0) (pc := 2) dX0_test_2 rfl ?_
  refine xw_aload_n (pc := 3) dX0_test_3 0 rfl ?_
  refine xw_iload_n (pc := 4) dX0_test_4 1 rfl ?_
  refine xw_iload_n (pc := 5) dX0_test_5 2 rfl ?_
  refine xw_iload_n (pc := 6) dX0_test_6 3 rfl ?_
  refine xw_iload (pc := 7) dX0_test_7 4 rfl ?_
  refine xw_call (pc := 9) (xr_V (as := [_, _, _, _]) ok_X1_test rfl (by decide) q1368 q1369 q1370 (by rw [hx]; rfl) (by rw [hx]; rfl) dX0_test_9 rfl rfl (Nat.le_of_ble_eq_true rfl)) (h) ?_
  intro rs g1 hc1 hm1
  obtain ⟨q, rfl, q1, q2, q3⟩ := hc1
  have hp : ∀ z ∈ [((0 : Nat), (14 : Nat), (17 : Nat), (13 : Nat))], xNot "PolicyNotationLaw" 9 (xcn (xtag g1 q)) z := by
    intro z hz
    rw [q1]
    have hz2 : z = (0, 14, 17, 13) := by simpa using hz
    subst hz2
    exact Or.inr ⟨by decide, _, q1032, by decide +kernel⟩
  refine xx_catch [(0, 14, 17, 13)] (0, 14, 21, 21) [(0, 14, 25, 34)] rfl hp (cvE (by decide) (by decide)) (by decide) q1175 (by rw [q1]; exact q175) (by rw [q1]; decide) (by rw [q1]; decide) (by rw [q2]; decide) ?_
  refine xw_astore (l' := [(6, _), (0, _), (1, _), (2, _), (3, _), (4, _), (5, _)]) (pc := 21) dX0_test_21 (by decide) rfl ?_
  refine xw_iconst (v := nI 2) (pc := 23) dX0_test_23 rfl ?_
  refine xw_iret (pc := 24) .int dX0_test_24 rfl ?_ 
  exact ⟨rfl, q3⟩

theorem SP_X0_test_26 {d : Nat} {g : xG} {x out : Nat} {p0 p1 p2 p3 : Int32} {E : xG → Prop} (hx : xtag g x = 1) (h : XM M_X1_test (d + 90) [.ref x, .int p0, .int p1, .int p2, .int p3] g (xErr 26 E)) : XM M_X0_test (d + 91) [.ref x, .int p0, .int p1, .int p2, .int p3, .ref out] g (xVal (.int (nI 3)) E) := by
  refine xm_of (by decide +kernel) (Nat.le_of_ble_eq_true rfl) ?_
  show XW _ _ 0 [(0, _), (1, _), (2, _), (3, _), (4, _), (5, _)] [] _ _
  refine xw_aload (pc := 0) dX0_test_0 5 rfl ?_
  refine xw_iconst (v := nI 0) (pc := 2) dX0_test_2 rfl ?_
  refine xw_aload_n (pc := 3) dX0_test_3 0 rfl ?_
  refine xw_iload_n (pc := 4) dX0_test_4 1 rfl ?_
  refine xw_iload_n (pc := 5) dX0_test_5 2 rfl ?_
  refine xw_iload_n (pc := 6) dX0_test_6 3 rfl ?_
  refine xw_iload (pc := 7) dX0_test_7 4 rfl ?_
  refine xw_call (pc := 9) (xr_V (as := [_, _, _, _]) ok_X1_test rfl (by decide) q1368 q1369 q1370 (by rw [hx]; rfl) (by rw [hx]; rfl) dX0_test_9 rfl rfl (Nat.le_of_ble_eq_true rfl)) (h) ?_
  intro rs g1 hc1 hm1
  obtain ⟨q, rfl, q1, q2, q3⟩ := hc1
  have hp : ∀ z ∈ [((0 : Nat), (14 : Nat), (17 : Nat), (13 : Nat)), ((0 : Nat), (14 : Nat), (21 : Nat), (21 : Nat))], xNot "PolicyNotationLaw" 9 (xcn (xtag g1 q)) z := by
    intro z hz
    rw [q1]
    have hz2 : z = (0, 14, 17, 13) ∨ z = (0, 14, 21, 21) := by simpa using hz
    rcases hz2 with rfl | rfl
    · exact Or.inr ⟨by decide, _, q1032, by decide +kernel⟩
    · exact Or.inr ⟨by decide, _, q1175, by decide +kernel⟩
  refine xx_catch [(0, 14, 17, 13), (0, 14, 21, 21)] (0, 14, 25, 34) [] rfl hp (cvE (by decide) (by decide)) (by decide) q1257 (by rw [q1]; exact q1312) (by rw [q1]; decide) (by rw [q1]; decide) (by rw [q2]; decide) ?_
  refine xw_astore (l' := [(6, _), (0, _), (1, _), (2, _), (3, _), (4, _), (5, _)]) (pc := 25) dX0_test_25 (by decide) rfl ?_
  refine xw_iconst (v := nI 3) (pc := 27) dX0_test_27 rfl ?_
  refine xw_iret (pc := 28) .int dX0_test_28 rfl ?_ 
  exact ⟨rfl, q3⟩

theorem SP_X0_setFactor_ok {d : Nat} {g : xG} {x out : Nat} {p0 p1 : Int32} {E : xG → Prop} (hx : xtag g x = 1) (hE : ∀ g', E g' → xtag g' out = 106 ∧ xown g' out = 4 ∧ xlen g' out = 1) {v : Int32} (h : XM M_X1_setFactor (d + 90) [.ref x, .int p0, .int p1] g (xVal (.int v) E)) : XM M_X0_setFactor (d + 91) [.ref x, .int p0, .int p1, .ref out] g (xVal (.int (nI 0)) (fun g' => ∃ g1, E g1 ∧ g' = xsetW g1 out 0 (v.toInt64.toUInt64))) := by
  refine xm_of (by decide +kernel) (Nat.le_of_ble_eq_true rfl) ?_
  show XW _ _ 0 [(0, _), (1, _), (2, _), (3, _)] [] _ _
  refine xw_aload_n (pc := 0) dX0_setFactor_0 3 rfl ?_
  refine xw_iconst (v := nI 0) (pc := 1) dX0_setFactor_1 rfl ?_
  refine xw_aload_n (pc := 2) dX0_setFactor_2 0 rfl ?_
  refine xw_iload_n (pc := 3) dX0_setFactor_3 1 rfl ?_
  refine xw_iload_n (pc := 4) dX0_setFactor_4 2 rfl ?_
  refine xw_callF (pc := 5) (xr_V (as := [_, _]) ok_X1_setFactor rfl (by decide) q1460 q1461 q1462 (by rw [hx]; rfl) (by rw [hx]; rfl) dX0_setFactor_5 rfl rfl (Nat.le_of_ble_eq_true rfl)) (h) ?_
  intro g1 hc1 hm1
  obtain ⟨t1, t2, t3⟩ := hE g1 hc1
  have t2n : xown g1 out ≠ 0 := by rw [t2]; decide
  refine xw_i2l (pc := 8) dX0_setFactor_8 ?_
  refine xw_last (k := 0) (pc := 9) dX0_setFactor_9 (by simp [-List.getD_eq_getElem?_getD, xE_setI, xsz_setI, xsl_setI, xtag_setI, xown_setI, xlen_setI, xE_setR, xsz_setR, xsl_setR, xtag_setR, xown_setR, xlen_setR, xE_setW, xsz_setW, xsl_setW, xtag_setW, xown_setW, xlen_setW, xi_setR, xi_setW, xr_setI, xr_setW, xww_setI, xww_setR, xi_setI, xr_setR, xww_setW, xE_new, xsz_new, xsl_new, hx, t1, t3, t2n]) (by first | assumption | (simp [-List.getD_eq_getElem?_getD, xE_setI, xsz_setI, xsl_setI, xtag_setI, xown_setI, xlen_setI, xE_setR, xsz_setR, xsl_setR, xtag_setR, xown_setR, xlen_setR, xE_setW, xsz_setW, xsl_setW, xtag_setW, xown_setW, xlen_setW, xi_setR, xi_setW, xr_setI, xr_setW, xww_setI, xww_setR, xi_setI, xr_setR, xww_setW, xE_new, xsz_new, xsl_new, hx, t1, t3, t2n]; done) | (simp [-List.getD_eq_getElem?_getD, xE_setI, xsz_setI, xsl_setI, xtag_setI, xown_setI, xlen_setI, xE_setR, xsz_setR, xsl_setR, xtag_setR, xown_setR, xlen_setR, xE_setW, xsz_setW, xsl_setW, xtag_setW, xown_setW, xlen_setW, xi_setR, xi_setW, xr_setI, xr_setW, xww_setI, xww_setR, xi_setI, xr_setR, xww_setW, xE_new, xsz_new, xsl_new, hx, t1, t3, t2n]; assumption)) rfl (by rw [t3]; decide) ?_
  refine xw_goto (pc := 10) 21 dX0_setFactor_10 rfl ?_
  refine xw_iconst (v := nI 0) (pc := 21) dX0_setFactor_21 rfl ?_
  refine xw_iret (pc := 22) .int dX0_setFactor_22 rfl ?_ 
  exact ⟨rfl, g1, hc1, rfl⟩

theorem SP_X0_setFactor_23 {d : Nat} {g : xG} {x out : Nat} {p0 p1 : Int32} {E : xG → Prop} (hx : xtag g x = 1) (h : XM M_X1_setFactor (d + 90) [.ref x, .int p0, .int p1] g (xErr 23 E)) : XM M_X0_setFactor (d + 91) [.ref x, .int p0, .int p1, .ref out] g (xVal (.int (nI 1)) E) := by
  refine xm_of (by decide +kernel) (Nat.le_of_ble_eq_true rfl) ?_
  show XW _ _ 0 [(0, _), (1, _), (2, _), (3, _)] [] _ _
  refine xw_aload_n (pc := 0) dX0_setFactor_0 3 rfl ?_
  refine xw_iconst (v := nI 0) (pc := 1) dX0_setFactor_1 rfl ?_
  refine xw_aload_n (pc := 2) dX0_setFactor_2 0 rfl ?_
  refine xw_iload_n (pc := 3) dX0_setFactor_3 1 rfl ?_
  refine xw_iload_n (pc := 4) dX0_setFactor_4 2 rfl ?_
  refine xw_call (pc := 5) (xr_V (as := [_, _]) ok_X1_setFactor rfl (by decide) q1460 q1461 q1462 (by rw [hx]; rfl) (by rw [hx]; rfl) dX0_setFactor_5 rfl rfl (Nat.le_of_ble_eq_true rfl)) (h) ?_
  intro rs g1 hc1 hm1
  obtain ⟨q, rfl, q1, q2, q3⟩ := hc1
  refine xx_catch [] (0, 10, 13, 13) [(0, 10, 17, 21)] rfl (fun z hz => by cases hz) (cvE (by decide) (by decide)) (by decide) q1032 (by rw [q1]; exact q1070) (by rw [q1]; decide) (by rw [q1]; decide) (by rw [q2]; decide) ?_
  refine xw_astore (l' := [(4, _), (0, _), (1, _), (2, _), (3, _)]) (pc := 13) dX0_setFactor_13 (by decide) rfl ?_
  refine xw_iconst (v := nI 1) (pc := 15) dX0_setFactor_15 rfl ?_
  refine xw_iret (pc := 16) .int dX0_setFactor_16 rfl ?_ 
  exact ⟨rfl, q3⟩

theorem SP_X0_setFactor_22 {d : Nat} {g : xG} {x out : Nat} {p0 p1 : Int32} {E : xG → Prop} (hx : xtag g x = 1) (h : XM M_X1_setFactor (d + 90) [.ref x, .int p0, .int p1] g (xErr 22 E)) : XM M_X0_setFactor (d + 91) [.ref x, .int p0, .int p1, .ref out] g (xVal (.int (nI 2)) E) := by
  refine xm_of (by decide +kernel) (Nat.le_of_ble_eq_true rfl) ?_
  show XW _ _ 0 [(0, _), (1, _), (2, _), (3, _)] [] _ _
  refine xw_aload_n (pc := 0) dX0_setFactor_0 3 rfl ?_
  refine xw_iconst (v := nI 0) (pc := 1) dX0_setFactor_1 rfl ?_
  refine xw_aload_n (pc := 2) dX0_setFactor_2 0 rfl ?_
  refine xw_iload_n (pc := 3) dX0_setFactor_3 1 rfl ?_
  refine xw_iload_n (pc := 4) dX0_setFactor_4 2 rfl ?_
  refine xw_call (pc := 5) (xr_V (as := [_, _]) ok_X1_setFactor rfl (by decide) q1460 q1461 q1462 (by rw [hx]; rfl) (by rw [hx]; rfl) dX0_setFactor_5 rfl rfl (Nat.le_of_ble_eq_true rfl)) (h) ?_
  intro rs g1 hc1 hm1
  obtain ⟨q, rfl, q1, q2, q3⟩ := hc1
  have hp : ∀ z ∈ [((0 : Nat), (10 : Nat), (13 : Nat), (13 : Nat))], xNot "PolicyNotationLaw" 5 (xcn (xtag g1 q)) z := by
    intro z hz
    rw [q1]
    have hz2 : z = (0, 10, 13, 13) := by simpa using hz
    subst hz2
    exact Or.inr ⟨by decide, _, q1032, by decide +kernel⟩
  refine xx_catch [(0, 10, 13, 13)] (0, 10, 17, 21) [] rfl hp (cvE (by decide) (by decide)) (by decide) q1175 (by rw [q1]; exact q175) (by rw [q1]; decide) (by rw [q1]; decide) (by rw [q2]; decide) ?_
  refine xw_astore (l' := [(4, _), (0, _), (1, _), (2, _), (3, _)]) (pc := 17) dX0_setFactor_17 (by decide) rfl ?_
  refine xw_iconst (v := nI 2) (pc := 19) dX0_setFactor_19 rfl ?_
  refine xw_iret (pc := 20) .int dX0_setFactor_20 rfl ?_ 
  exact ⟨rfl, q3⟩

theorem SP_X0_end_ok {d : Nat} {g : xG} {x out : Nat} {p0 p1 : Int32} {E : xG → Prop} (hx : xtag g x = 1) (hE : ∀ g', E g' → xtag g' out = 106 ∧ xown g' out = 4 ∧ xlen g' out = 1) {v : Int32} (h : XM M_X1_end (d + 90) [.ref x, .int p0, .int p1] g (xVal (.int v) E)) : XM M_X0_end (d + 91) [.ref x, .int p0, .int p1, .ref out] g (xVal (.int (nI 0)) (fun g' => ∃ g1, E g1 ∧ g' = xsetW g1 out 0 (v.toInt64.toUInt64))) := by
  refine xm_of (by decide +kernel) (Nat.le_of_ble_eq_true rfl) ?_
  show XW _ _ 0 [(0, _), (1, _), (2, _), (3, _)] [] _ _
  refine xw_aload_n (pc := 0) dX0_end_0 3 rfl ?_
  refine xw_iconst (v := nI 0) (pc := 1) dX0_end_1 rfl ?_
  refine xw_aload_n (pc := 2) dX0_end_2 0 rfl ?_
  refine xw_iload_n (pc := 3) dX0_end_3 1 rfl ?_
  refine xw_iload_n (pc := 4) dX0_end_4 2 rfl ?_
  refine xw_callF (pc := 5) (xr_V (as := [_, _]) ok_X1_end rfl (by decide) q1467 q1468 q1469 (by rw [hx]; rfl) (by rw [hx]; rfl) dX0_end_5 rfl rfl (Nat.le_of_ble_eq_true rfl)) (h) ?_
  intro g1 hc1 hm1
  obtain ⟨t1, t2, t3⟩ := hE g1 hc1
  have t2n : xown g1 out ≠ 0 := by rw [t2]; decide
  refine xw_i2l (pc := 8) dX0_end_8 ?_
  refine xw_last (k := 0) (pc := 9) dX0_end_9 (by simp [-List.getD_eq_getElem?_getD, xE_setI, xsz_setI, xsl_setI, xtag_setI, xown_setI, xlen_setI, xE_setR, xsz_setR, xsl_setR, xtag_setR, xown_setR, xlen_setR, xE_setW, xsz_setW, xsl_setW, xtag_setW, xown_setW, xlen_setW, xi_setR, xi_setW, xr_setI, xr_setW, xww_setI, xww_setR, xi_setI, xr_setR, xww_setW, xE_new, xsz_new, xsl_new, hx, t1, t3, t2n]) (by first | assumption | (simp [-List.getD_eq_getElem?_getD, xE_setI, xsz_setI, xsl_setI, xtag_setI, xown_setI, xlen_setI, xE_setR, xsz_setR, xsl_setR, xtag_setR, xown_setR, xlen_setR, xE_setW, xsz_setW, xsl_setW, xtag_setW, xown_setW, xlen_setW, xi_setR, xi_setW, xr_setI, xr_setW, xww_setI, xww_setR, xi_setI, xr_setR, xww_setW, xE_new, xsz_new, xsl_new, hx, t1, t3, t2n]; done) | (simp [-List.getD_eq_getElem?_getD, xE_setI, xsz_setI, xsl_setI, xtag_setI, xown_setI, xlen_setI, xE_setR, xsz_setR, xsl_setR, xtag_setR, xown_setR, xlen_setR, xE_setW, xsz_setW, xsl_setW, xtag_setW, xown_setW, xlen_setW, xi_setR, xi_setW, xr_setI, xr_setW, xww_setI, xww_setR, xi_setI, xr_setR, xww_setW, xE_new, xsz_new, xsl_new, hx, t1, t3, t2n]; assumption)) rfl (by rw [t3]; decide) ?_
  refine xw_goto (pc := 10) 25 dX0_end_10 rfl ?_
  refine xw_iconst (v := nI 0) (pc := 25) dX0_end_25 rfl ?_
  refine xw_iret (pc := 26) .int dX0_end_26 rfl ?_ 
  exact ⟨rfl, g1, hc1, rfl⟩

theorem SP_X0_end_23 {d : Nat} {g : xG} {x out : Nat} {p0 p1 : Int32} {E : xG → Prop} (hx : xtag g x = 1) (h : XM M_X1_end (d + 90) [.ref x, .int p0, .int p1] g (xErr 23 E)) : XM M_X0_end (d + 91) [.ref x, .int p0, .int p1, .ref out] g (xVal (.int (nI 1)) E) := by
  refine xm_of (by decide +kernel) (Nat.le_of_ble_eq_true rfl) ?_
  show XW _ _ 0 [(0, _), (1, _), (2, _), (3, _)] [] _ _
  refine xw_aload_n (pc := 0) dX0_end_0 3 rfl ?_
  refine xw_iconst (v := nI 0) (pc := 1) dX0_end_1 rfl ?_
  refine xw_aload_n (pc := 2) dX0_end_2 0 rfl ?_
  refine xw_iload_n (pc := 3) dX0_end_3 1 rfl ?_
  refine xw_iload_n (pc := 4) dX0_end_4 2 rfl ?_
  refine xw_call (pc := 5) (xr_V (as := [_, _]) ok_X1_end rfl (by decide) q1467 q1468 q1469 (by rw [hx]; rfl) (by rw [hx]; rfl) dX0_end_5 rfl rfl (Nat.le_of_ble_eq_true rfl)) (h) ?_
  intro rs g1 hc1 hm1
  obtain ⟨q, rfl, q1, q2, q3⟩ := hc1
  refine xx_catch [] (0, 10, 13, 13) [(0, 10, 17, 21), (0, 10, 21, 34)] rfl (fun z hz => by cases hz) (cvE (by decide) (by decide)) (by decide) q1032 (by rw [q1]; exact q1070) (by rw [q1]; decide) (by rw [q1]; decide) (by rw [q2]; decide) ?_
  refine xw_astore (l' := [(4, _), (0, _), (1, _), (2, _), (3, _)]) (pc := 13) dX0_end_13 (by decide) rfl ?_
  refine xw_iconst (v := nI 1) (pc := 15) dX0_end_15 rfl ?_
  refine xw_iret (pc := 16) .int dX0_end_16 rfl ?_ 
  exact ⟨rfl, q3⟩

theorem SP_X0_end_22 {d : Nat} {g : xG} {x out : Nat} {p0 p1 : Int32} {E : xG → Prop} (hx : xtag g x = 1) (h : XM M_X1_end (d + 90) [.ref x, .int p0, .int p1] g (xErr 22 E)) : XM M_X0_end (d + 91) [.ref x, .int p0, .int p1, .ref out] g (xVal (.int (nI 2)) E) := by
  refine xm_of (by decide +kernel) (Nat.le_of_ble_eq_true rfl) ?_
  show XW _ _ 0 [(0, _), (1, _), (2, _), (3, _)] [] _ _
  refine xw_aload_n (pc := 0) dX0_end_0 3 rfl ?_
  refine xw_iconst (v := nI 0) (pc := 1) dX0_end_1 rfl ?_
  refine xw_aload_n (pc := 2) dX0_end_2 0 rfl ?_
  refine xw_iload_n (pc := 3) dX0_end_3 1 rfl ?_
  refine xw_iload_n (pc := 4) dX0_end_4 2 rfl ?_
  refine xw_call (pc := 5) (xr_V (as := [_, _]) ok_X1_end rfl (by decide) q1467 q1468 q1469 (by rw [hx]; rfl) (by rw [hx]; rfl) dX0_end_5 rfl rfl (Nat.le_of_ble_eq_true rfl)) (h) ?_
  intro rs g1 hc1 hm1
  obtain ⟨q, rfl, q1, q2, q3⟩ := hc1
  have hp : ∀ z ∈ [((0 : Nat), (10 : Nat), (13 : Nat), (13 : Nat))], xNot "PolicyNotationLaw" 5 (xcn (xtag g1 q)) z := by
    intro z hz
    rw [q1]
    have hz2 : z = (0, 10, 13, 13) := by simpa using hz
    subst hz2
    exact Or.inr ⟨by decide, _, q1032, by decide +kernel⟩
  refine xx_catch [(0, 10, 13, 13)] (0, 10, 17, 21) [(0, 10, 21, 34)] rfl hp (cvE (by decide) (by decide)) (by decide) q1175 (by rw [q1]; exact q175) (by rw [q1]; decide) (by rw [q1]; decide) (by rw [q2]; decide) ?_
  refine xw_astore (l' := [(4, _), (0, _), (1, _), (2, _), (3, _)]) (pc := 17) dX0_end_17 (by decide) rfl ?_
  refine xw_iconst (v := nI 2) (pc := 19) dX0_end_19 rfl ?_
  refine xw_iret (pc := 20) .int dX0_end_20 rfl ?_ 
  exact ⟨rfl, q3⟩

theorem SP_X0_end_26 {d : Nat} {g : xG} {x out : Nat} {p0 p1 : Int32} {E : xG → Prop} (hx : xtag g x = 1) (h : XM M_X1_end (d + 90) [.ref x, .int p0, .int p1] g (xErr 26 E)) : XM M_X0_end (d + 91) [.ref x, .int p0, .int p1, .ref out] g (xVal (.int (nI 3)) E) := by
  refine xm_of (by decide +kernel) (Nat.le_of_ble_eq_true rfl) ?_
  show XW _ _ 0 [(0, _), (1, _), (2, _), (3, _)] [] _ _
  refine xw_aload_n (pc := 0) dX0_end_0 3 rfl ?_
  refine xw_iconst (v := nI 0) (pc := 1) dX0_end_1 rfl ?_
  refine xw_aload_n (pc := 2) dX0_end_2 0 rfl ?_
  refine xw_iload_n (pc := 3) dX0_end_3 1 rfl ?_
  refine xw_iload_n (pc := 4) dX0_end_4 2 rfl ?_
  refine xw_call (pc := 5) (xr_V (as := [_, _]) ok_X1_end rfl (by decide) q1467 q1468 q1469 (by rw [hx]; rfl) (by rw [hx]; rfl) dX0_end_5 rfl rfl (Nat.le_of_ble_eq_true rfl)) (h) ?_
  intro rs g1 hc1 hm1
  obtain ⟨q, rfl, q1, q2, q3⟩ := hc1
  have hp : ∀ z ∈ [((0 : Nat), (10 : Nat), (13 : Nat), (13 : Nat)), ((0 : Nat), (10 : Nat), (17 : Nat), (21 : Nat))], xNot "PolicyNotationLaw" 5 (xcn (xtag g1 q)) z := by
    intro z hz
    rw [q1]
    have hz2 : z = (0, 10, 13, 13) ∨ z = (0, 10, 17, 21) := by simpa using hz
    rcases hz2 with rfl | rfl
    · exact Or.inr ⟨by decide, _, q1032, by decide +kernel⟩
    · exact Or.inr ⟨by decide, _, q1175, by decide +kernel⟩
  refine xx_catch [(0, 10, 13, 13), (0, 10, 17, 21)] (0, 10, 21, 34) [] rfl hp (cvE (by decide) (by decide)) (by decide) q1257 (by rw [q1]; exact q1312) (by rw [q1]; decide) (by rw [q1]; decide) (by rw [q2]; decide) ?_
  refine xw_astore (l' := [(4, _), (0, _), (1, _), (2, _), (3, _)]) (pc := 21) dX0_end_21 (by decide) rfl ?_
  refine xw_iconst (v := nI 3) (pc := 23) dX0_end_23 rfl ?_
  refine xw_iret (pc := 24) .int dX0_end_24 rfl ?_ 
  exact ⟨rfl, q3⟩

theorem SP_X0_ruleOf_ok {d : Nat} {g : xG} {x out : Nat} {p0 p1 : Int32} {E : xG → Prop} (hx : xtag g x = 1) (hE : ∀ g', E g' → xtag g' out = 106 ∧ xown g' out = 4 ∧ xlen g' out = 1) {v : Int32} (h : XM M_X1_ruleOf (d + 90) [.ref x, .int p0, .int p1] g (xVal (.int v) E)) : XM M_X0_ruleOf (d + 91) [.ref x, .int p0, .int p1, .ref out] g (xVal (.int (nI 0)) (fun g' => ∃ g1, E g1 ∧ g' = xsetW g1 out 0 (v.toInt64.toUInt64))) := by
  refine xm_of (by decide +kernel) (Nat.le_of_ble_eq_true rfl) ?_
  show XW _ _ 0 [(0, _), (1, _), (2, _), (3, _)] [] _ _
  refine xw_aload_n (pc := 0) dX0_ruleOf_0 3 rfl ?_
  refine xw_iconst (v := nI 0) (pc := 1) dX0_ruleOf_1 rfl ?_
  refine xw_aload_n (pc := 2) dX0_ruleOf_2 0 rfl ?_
  refine xw_iload_n (pc := 3) dX0_ruleOf_3 1 rfl ?_
  refine xw_iload_n (pc := 4) dX0_ruleOf_4 2 rfl ?_
  refine xw_callF (pc := 5) (xr_V (as := [_, _]) ok_X1_ruleOf rfl (by decide) q1474 q1475 q1476 (by rw [hx]; rfl) (by rw [hx]; rfl) dX0_ruleOf_5 rfl rfl (Nat.le_of_ble_eq_true rfl)) (h) ?_
  intro g1 hc1 hm1
  obtain ⟨t1, t2, t3⟩ := hE g1 hc1
  have t2n : xown g1 out ≠ 0 := by rw [t2]; decide
  refine xw_i2l (pc := 8) dX0_ruleOf_8 ?_
  refine xw_last (k := 0) (pc := 9) dX0_ruleOf_9 (by simp [-List.getD_eq_getElem?_getD, xE_setI, xsz_setI, xsl_setI, xtag_setI, xown_setI, xlen_setI, xE_setR, xsz_setR, xsl_setR, xtag_setR, xown_setR, xlen_setR, xE_setW, xsz_setW, xsl_setW, xtag_setW, xown_setW, xlen_setW, xi_setR, xi_setW, xr_setI, xr_setW, xww_setI, xww_setR, xi_setI, xr_setR, xww_setW, xE_new, xsz_new, xsl_new, hx, t1, t3, t2n]) (by first | assumption | (simp [-List.getD_eq_getElem?_getD, xE_setI, xsz_setI, xsl_setI, xtag_setI, xown_setI, xlen_setI, xE_setR, xsz_setR, xsl_setR, xtag_setR, xown_setR, xlen_setR, xE_setW, xsz_setW, xsl_setW, xtag_setW, xown_setW, xlen_setW, xi_setR, xi_setW, xr_setI, xr_setW, xww_setI, xww_setR, xi_setI, xr_setR, xww_setW, xE_new, xsz_new, xsl_new, hx, t1, t3, t2n]; done) | (simp [-List.getD_eq_getElem?_getD, xE_setI, xsz_setI, xsl_setI, xtag_setI, xown_setI, xlen_setI, xE_setR, xsz_setR, xsl_setR, xtag_setR, xown_setR, xlen_setR, xE_setW, xsz_setW, xsl_setW, xtag_setW, xown_setW, xlen_setW, xi_setR, xi_setW, xr_setI, xr_setW, xww_setI, xww_setR, xi_setI, xr_setR, xww_setW, xE_new, xsz_new, xsl_new, hx, t1, t3, t2n]; assumption)) rfl (by rw [t3]; decide) ?_
  refine xw_goto (pc := 10) 21 dX0_ruleOf_10 rfl ?_
  refine xw_iconst (v := nI 0) (pc := 21) dX0_ruleOf_21 rfl ?_
  refine xw_iret (pc := 22) .int dX0_ruleOf_22 rfl ?_ 
  exact ⟨rfl, g1, hc1, rfl⟩

theorem SP_X0_ruleOf_23 {d : Nat} {g : xG} {x out : Nat} {p0 p1 : Int32} {E : xG → Prop} (hx : xtag g x = 1) (h : XM M_X1_ruleOf (d + 90) [.ref x, .int p0, .int p1] g (xErr 23 E)) : XM M_X0_ruleOf (d + 91) [.ref x, .int p0, .int p1, .ref out] g (xVal (.int (nI 1)) E) := by
  refine xm_of (by decide +kernel) (Nat.le_of_ble_eq_true rfl) ?_
  show XW _ _ 0 [(0, _), (1, _), (2, _), (3, _)] [] _ _
  refine xw_aload_n (pc := 0) dX0_ruleOf_0 3 rfl ?_
  refine xw_iconst (v := nI 0) (pc := 1) dX0_ruleOf_1 rfl ?_
  refine xw_aload_n (pc := 2) dX0_ruleOf_2 0 rfl ?_
  refine xw_iload_n (pc := 3) dX0_ruleOf_3 1 rfl ?_
  refine xw_iload_n (pc := 4) dX0_ruleOf_4 2 rfl ?_
  refine xw_call (pc := 5) (xr_V (as := [_, _]) ok_X1_ruleOf rfl (by decide) q1474 q1475 q1476 (by rw [hx]; rfl) (by rw [hx]; rfl) dX0_ruleOf_5 rfl rfl (Nat.le_of_ble_eq_true rfl)) (h) ?_
  intro rs g1 hc1 hm1
  obtain ⟨q, rfl, q1, q2, q3⟩ := hc1
  refine xx_catch [] (0, 10, 13, 13) [(0, 10, 17, 21)] rfl (fun z hz => by cases hz) (cvE (by decide) (by decide)) (by decide) q1032 (by rw [q1]; exact q1070) (by rw [q1]; decide) (by rw [q1]; decide) (by rw [q2]; decide) ?_
  refine xw_astore (l' := [(4, _), (0, _), (1, _), (2, _), (3, _)]) (pc := 13) dX0_ruleOf_13 (by decide) rfl ?_
  refine xw_iconst (v := nI 1) (pc := 15) dX0_ruleOf_15 rfl ?_
  refine xw_iret (pc := 16) .int dX0_ruleOf_16 rfl ?_ 
  exact ⟨rfl, q3⟩

theorem SP_X0_ruleOf_22 {d : Nat} {g : xG} {x out : Nat} {p0 p1 : Int32} {E : xG → Prop} (hx : xtag g x = 1) (h : XM M_X1_ruleOf (d + 90) [.ref x, .int p0, .int p1] g (xErr 22 E)) : XM M_X0_ruleOf (d + 91) [.ref x, .int p0, .int p1, .ref out] g (xVal (.int (nI 2)) E) := by
  refine xm_of (by decide +kernel) (Nat.le_of_ble_eq_true rfl) ?_
  show XW _ _ 0 [(0, _), (1, _), (2, _), (3, _)] [] _ _
  refine xw_aload_n (pc := 0) dX0_ruleOf_0 3 rfl ?_
  refine xw_iconst (v := nI 0) (pc := 1) dX0_ruleOf_1 rfl ?_
  refine xw_aload_n (pc := 2) dX0_ruleOf_2 0 rfl ?_
  refine xw_iload_n (pc := 3) dX0_ruleOf_3 1 rfl ?_
  refine xw_iload_n (pc := 4) dX0_ruleOf_4 2 rfl ?_
  refine xw_call (pc := 5) (xr_V (as := [_, _]) ok_X1_ruleOf rfl (by decide) q1474 q1475 q1476 (by rw [hx]; rfl) (by rw [hx]; rfl) dX0_ruleOf_5 rfl rfl (Nat.le_of_ble_eq_true rfl)) (h) ?_
  intro rs g1 hc1 hm1
  obtain ⟨q, rfl, q1, q2, q3⟩ := hc1
  have hp : ∀ z ∈ [((0 : Nat), (10 : Nat), (13 : Nat), (13 : Nat))], xNot "PolicyNotationLaw" 5 (xcn (xtag g1 q)) z := by
    intro z hz
    rw [q1]
    have hz2 : z = (0, 10, 13, 13) := by simpa using hz
    subst hz2
    exact Or.inr ⟨by decide, _, q1032, by decide +kernel⟩
  refine xx_catch [(0, 10, 13, 13)] (0, 10, 17, 21) [] rfl hp (cvE (by decide) (by decide)) (by decide) q1175 (by rw [q1]; exact q175) (by rw [q1]; decide) (by rw [q1]; decide) (by rw [q2]; decide) ?_
  refine xw_astore (l' := [(4, _), (0, _), (1, _), (2, _), (3, _)]) (pc := 17) dX0_ruleOf_17 (by decide) rfl ?_
  refine xw_iconst (v := nI 2) (pc := 19) dX0_ruleOf_19 rfl ?_
  refine xw_iret (pc := 20) .int dX0_ruleOf_20 rfl ?_ 
  exact ⟨rfl, q3⟩

theorem SP_X0_testOf_ok {d : Nat} {g : xG} {x out : Nat} {p0 p1 p2 : Int32} {E : xG → Prop} (hx : xtag g x = 1) (hE : ∀ g', E g' → xtag g' out = 106 ∧ xown g' out = 4 ∧ xlen g' out = 1) {v : Int32} (h : XM M_X1_testOf (d + 90) [.ref x, .int p0, .int p1, .int p2] g (xVal (.int v) E)) : XM M_X0_testOf (d + 91) [.ref x, .int p0, .int p1, .int p2, .ref out] g (xVal (.int (nI 0)) (fun g' => ∃ g1, E g1 ∧ g' = xsetW g1 out 0 (v.toInt64.toUInt64))) := by
  refine xm_of (by decide +kernel) (Nat.le_of_ble_eq_true rfl) ?_
  show XW _ _ 0 [(0, _), (1, _), (2, _), (3, _), (4, _)] [] _ _
  refine xw_aload (pc := 0) dX0_testOf_0 4 rfl ?_
  refine xw_iconst (v := nI 0) (pc := 2) dX0_testOf_2 rfl ?_
  refine xw_aload_n (pc := 3) dX0_testOf_3 0 rfl ?_
  refine xw_iload_n (pc := 4) dX0_testOf_4 1 rfl ?_
  refine xw_iload_n (pc := 5) dX0_testOf_5 2 rfl ?_
  refine xw_iload_n (pc := 6) dX0_testOf_6 3 rfl ?_
  refine xw_callF (pc := 7) (xr_V (as := [_, _, _]) ok_X1_testOf rfl (by decide) q1487 q1488 q1489 (by rw [hx]; rfl) (by rw [hx]; rfl) dX0_testOf_7 rfl rfl (Nat.le_of_ble_eq_true rfl)) (h) ?_
  intro g1 hc1 hm1
  obtain ⟨t1, t2, t3⟩ := hE g1 hc1
  have t2n : xown g1 out ≠ 0 := by rw [t2]; decide
  refine xw_i2l (pc := 10) dX0_testOf_10 ?_
  refine xw_last (k := 0) (pc := 11) dX0_testOf_11 (by simp [-List.getD_eq_getElem?_getD, xE_setI, xsz_setI, xsl_setI, xtag_setI, xown_setI, xlen_setI, xE_setR, xsz_setR, xsl_setR, xtag_setR, xown_setR, xlen_setR, xE_setW, xsz_setW, xsl_setW, xtag_setW, xown_setW, xlen_setW, xi_setR, xi_setW, xr_setI, xr_setW, xww_setI, xww_setR, xi_setI, xr_setR, xww_setW, xE_new, xsz_new, xsl_new, hx, t1, t3, t2n]) (by first | assumption | (simp [-List.getD_eq_getElem?_getD, xE_setI, xsz_setI, xsl_setI, xtag_setI, xown_setI, xlen_setI, xE_setR, xsz_setR, xsl_setR, xtag_setR, xown_setR, xlen_setR, xE_setW, xsz_setW, xsl_setW, xtag_setW, xown_setW, xlen_setW, xi_setR, xi_setW, xr_setI, xr_setW, xww_setI, xww_setR, xi_setI, xr_setR, xww_setW, xE_new, xsz_new, xsl_new, hx, t1, t3, t2n]; done) | (simp [-List.getD_eq_getElem?_getD, xE_setI, xsz_setI, xsl_setI, xtag_setI, xown_setI, xlen_setI, xE_setR, xsz_setR, xsl_setR, xtag_setR, xown_setR, xlen_setR, xE_setW, xsz_setW, xsl_setW, xtag_setW, xown_setW, xlen_setW, xi_setR, xi_setW, xr_setI, xr_setW, xww_setI, xww_setR, xi_setI, xr_setR, xww_setW, xE_new, xsz_new, xsl_new, hx, t1, t3, t2n]; assumption)) rfl (by rw [t3]; decide) ?_
  refine xw_goto (pc := 12) 27 dX0_testOf_12 rfl ?_
  refine xw_iconst (v := nI 0) (pc := 27) dX0_testOf_27 rfl ?_
  refine xw_iret (pc := 28) .int dX0_testOf_28 rfl ?_ 
  exact ⟨rfl, g1, hc1, rfl⟩

theorem SP_X0_testOf_23 {d : Nat} {g : xG} {x out : Nat} {p0 p1 p2 : Int32} {E : xG → Prop} (hx : xtag g x = 1) (h : XM M_X1_testOf (d + 90) [.ref x, .int p0, .int p1, .int p2] g (xErr 23 E)) : XM M_X0_testOf (d + 91) [.ref x, .int p0, .int p1, .int p2, .ref out] g (xVal (.int (nI 1)) E) := by
  refine xm_of (by decide +kernel) (Nat.le_of_ble_eq_true rfl) ?_
  show XW _ _ 0 [(0, _), (1, _), (2, _), (3, _), (4, _)] [] _ _
  refine xw_aload (pc := 0) dX0_testOf_0 4 rfl ?_
  refine xw_iconst (v := nI 0) (pc := 2) dX0_testOf_2 rfl ?_
  refine xw_aload_n (pc := 3) dX0_testOf_3 0 rfl ?_
  refine xw_iload_n (pc := 4) dX0_testOf_4 1 rfl ?_
  refine xw_iload_n (pc := 5) dX0_testOf_5 2 rfl ?_
  refine xw_iload_n (pc := 6) dX0_testOf_6 3 rfl ?_
  refine xw_call (pc := 7) (xr_V (as := [_, _, _]) ok_X1_testOf rfl (by decide) q1487 q1488 q1489 (by rw [hx]; rfl) (by rw [hx]; rfl) dX0_testOf_7 rfl rfl (Nat.le_of_ble_eq_true rfl)) (h) ?_
  intro rs g1 hc1 hm1
  obtain ⟨q, rfl, q1, q2, q3⟩ := hc1
  refine xx_catch [] (0, 12, 15, 13) [(0, 12, 19, 56), (0, 12, 23, 21)] rfl (fun z hz => by cases hz) (cvE (by decide) (by decide)) (by decide) q1032 (by rw [q1]; exact q1070) (by rw [q1]; decide) (by rw [q1]; decide) (by rw [q2]; decide) ?_
  refine xw_astore (l' := [(5, _), (0, _), (1, _), (2, _), (3, _), (4, _)]) (pc := 15) dX0_testOf_15 (by decide) rfl ?_
  refine xw_iconst (v := nI 1) (pc := 17) dX0_testOf_17 rfl ?_
  refine xw_iret (pc := 18) .int dX0_testOf_18 rfl ?_ 
  exact ⟨rfl, q3⟩

theorem SP_X0_testOf_25 {d : Nat} {g : xG} {x out : Nat} {p0 p1 p2 : Int32} {E : xG → Prop} (hx : xtag g x = 1) (h : XM M_X1_testOf (d + 90) [.ref x, .int p0, .int p1, .int p2] g (xErr 25 E)) : XM M_X0_testOf (d + 91) [.ref x, .int p0, .int p1, .int p2, .ref out] g (xVal (.int (nI 2)) E) := by
  refine xm_of (by decide +kernel) (Nat.le_of_ble_eq_true rfl) ?_
  show XW _ _ 0 [(0, _), (1, _), (2, _), (3, _), (4, _)] [] _ _
  refine xw_aload (pc := 0) dX0_testOf_0 4 rfl ?_
  refine xw_iconst (v := nI 0) (pc := 2) dX0_testOf_2 rfl ?_
  refine xw_aload_n (pc := 3) dX0_testOf_3 0 rfl ?_
  refine xw_iload_n (pc := 4) dX0_testOf_4 1 rfl ?_
  refine xw_iload_n (pc := 5) dX0_testOf_5 2 rfl ?_
  refine xw_iload_n (pc := 6) dX0_testOf_6 3 rfl ?_
  refine xw_call (pc := 7) (xr_V (as := [_, _, _]) ok_X1_testOf rfl (by decide) q1487 q1488 q1489 (by rw [hx]; rfl) (by rw [hx]; rfl) dX0_testOf_7 rfl rfl (Nat.le_of_ble_eq_true rfl)) (h) ?_
  intro rs g1 hc1 hm1
  obtain ⟨q, rfl, q1, q2, q3⟩ := hc1
  have hp : ∀ z ∈ [((0 : Nat), (12 : Nat), (15 : Nat), (13 : Nat))], xNot "PolicyNotationLaw" 7 (xcn (xtag g1 q)) z := by
    intro z hz
    rw [q1]
    have hz2 : z = (0, 12, 15, 13) := by simpa using hz
    subst hz2
    exact Or.inr ⟨by decide, _, q1032, by decide +kernel⟩
  refine xx_catch [(0, 12, 15, 13)] (0, 12, 19, 56) [(0, 12, 23, 21)] rfl hp (cvE (by decide) (by decide)) (by decide) q1486 (by rw [q1]; exact q1159) (by rw [q1]; decide) (by rw [q1]; decide) (by rw [q2]; decide) ?_
  refine xw_astore (l' := [(5, _), (0, _), (1, _), (2, _), (3, _), (4, _)]) (pc := 19) dX0_testOf_19 (by decide) rfl ?_
  refine xw_iconst (v := nI 2) (pc := 21) dX0_testOf_21 rfl ?_
  refine xw_iret (pc := 22) .int dX0_testOf_22 rfl ?_ 
  exact ⟨rfl, q3⟩

theorem SP_X0_testOf_22 {d : Nat} {g : xG} {x out : Nat} {p0 p1 p2 : Int32} {E : xG → Prop} (hx : xtag g x = 1) (h : XM M_X1_testOf (d + 90) [.ref x, .int p0, .int p1, .int p2] g (xErr 22 E)) : XM M_X0_testOf (d + 91) [.ref x, .int p0, .int p1, .int p2, .ref out] g (xVal (.int (nI 3)) E) := by
  refine xm_of (by decide +kernel) (Nat.le_of_ble_eq_true rfl) ?_
  show XW _ _ 0 [(0, _), (1, _), (2, _), (3, _), (4, _)] [] _ _
  refine xw_aload (pc := 0) dX0_testOf_0 4 rfl ?_
  refine xw_iconst (v := nI 0) (pc := 2) dX0_testOf_2 rfl ?_
  refine xw_aload_n (pc := 3) dX0_testOf_3 0 rfl ?_
  refine xw_iload_n (pc := 4) dX0_testOf_4 1 rfl ?_
  refine xw_iload_n (pc := 5) dX0_testOf_5 2 rfl ?_
  refine xw_iload_n (pc := 6) dX0_testOf_6 3 rfl ?_
  refine xw_call (pc := 7) (xr_V (as := [_, _, _]) ok_X1_testOf rfl (by decide) q1487 q1488 q1489 (by rw [hx]; rfl) (by rw [hx]; rfl) dX0_testOf_7 rfl rfl (Nat.le_of_ble_eq_true rfl)) (h) ?_
  intro rs g1 hc1 hm1
  obtain ⟨q, rfl, q1, q2, q3⟩ := hc1
  have hp : ∀ z ∈ [((0 : Nat), (12 : Nat), (15 : Nat), (13 : Nat)), ((0 : Nat), (12 : Nat), (19 : Nat), (56 : Nat))], xNot "PolicyNotationLaw" 7 (xcn (xtag g1 q)) z := by
    intro z hz
    rw [q1]
    have hz2 : z = (0, 12, 15, 13) ∨ z = (0, 12, 19, 56) := by simpa using hz
    rcases hz2 with rfl | rfl
    · exact Or.inr ⟨by decide, _, q1032, by decide +kernel⟩
    · exact Or.inr ⟨by decide, _, q1486, by decide +kernel⟩
  refine xx_catch [(0, 12, 15, 13), (0, 12, 19, 56)] (0, 12, 23, 21) [] rfl hp (cvE (by decide) (by decide)) (by decide) q1175 (by rw [q1]; exact q175) (by rw [q1]; decide) (by rw [q1]; decide) (by rw [q2]; decide) ?_
  refine xw_astore (l' := [(5, _), (0, _), (1, _), (2, _), (3, _), (4, _)]) (pc := 23) dX0_testOf_23 (by decide) rfl ?_
  refine xw_iconst (v := nI 3) (pc := 25) dX0_testOf_25 rfl ?_
  refine xw_iret (pc := 26) .int dX0_testOf_26 rfl ?_ 
  exact ⟨rfl, q3⟩

theorem SP_X0_covers_ok1 {d : Nat} {g : xG} {x out : Nat} {p0 p1 p2 p3 : Int32} {E : xG → Prop} (hx : xtag g x = 1) (hE : ∀ g', E g' → xtag g' out = 106 ∧ xown g' out = 4 ∧ xlen g' out = 1) (h : XM M_X1_covers (d + 90) [.ref x, .int p0, .int p1, .int p2, .int p3] g (xVal (.int (bI true)) E)) : XM M_X0_covers (d + 91) [.ref x, .int p0, .int p1, .int p2, .int p3, .ref out] g (xVal (.int (nI 0)) (fun g' => ∃ g1, E g1 ∧ g' = xsetW g1 out 0 ((1 : Int64).toUInt64))) := by
  refine xm_of (by decide +kernel) (Nat.le_of_ble_eq_true rfl) ?_
  show XW _ _ 0 [(0, _), (1, _), (2, _), (3, _), (4, _), (5, _)] [] _ _
  refine xw_aload (pc := 0) dX0_covers_0 5 rfl ?_
  refine xw_iconst (v := nI 0) (pc := 2) dX0_covers_2 rfl ?_
  refine xw_aload_n (pc := 3) dX0_covers_3 0 rfl ?_
  refine xw_iload_n (pc := 4) dX0_covers_4 1 rfl ?_
  refine xw_iload_n (pc := 5) dX0_covers_5 2 rfl ?_
  refine xw_iload_n (pc := 6) dX0_covers_6 3 rfl ?_
  refine xw_iload (pc := 7) dX0_covers_7 4 rfl ?_
  refine xw_callF (pc := 9) (xr_V (as := [_, _, _, _]) ok_X1_covers rfl (by decide) q1508 q1509 q1510 (by rw [hx]; rfl) (by rw [hx]; rfl) dX0_covers_9 rfl rfl (Nat.le_of_ble_eq_true rfl)) (h) ?_
  intro g1 hc1 hm1
  obtain ⟨t1, t2, t3⟩ := hE g1 hc1
  have t2n : xown g1 out ≠ 0 := by rw [t2]; decide
  refine xw_if_eq (pc := 12) 19 dX0_covers_12 rfl (fun hb => absurd hb (by decide)) (fun _ => ?_)
  refine xw_lconst (v := 1) (pc := 15) dX0_covers_15 (by decide) ?_
  refine xw_goto (pc := 16) 20 dX0_covers_16 rfl ?_
  refine xw_last (k := 0) (pc := 20) dX0_covers_20 (by simp [-List.getD_eq_getElem?_getD, xE_setI, xsz_setI, xsl_setI, xtag_setI, xown_setI, xlen_setI, xE_setR, xsz_setR, xsl_setR, xtag_setR, xown_setR, xlen_setR, xE_setW, xsz_setW, xsl_setW, xtag_setW, xown_setW, xlen_setW, xi_setR, xi_setW, xr_setI, xr_setW, xww_setI, xww_setR, xi_setI, xr_setR, xww_setW, xE_new, xsz_new, xsl_new, hx, t1, t3, t2n]) (by first | assumption | (simp [-List.getD_eq_getElem?_getD, xE_setI, xsz_setI, xsl_setI, xtag_setI, xown_setI, xlen_setI, xE_setR, xsz_setR, xsl_setR, xtag_setR, xown_setR, xlen_setR, xE_setW, xsz_setW, xsl_setW, xtag_setW, xown_setW, xlen_setW, xi_setR, xi_setW, xr_setI, xr_setW, xww_setI, xww_setR, xi_setI, xr_setR, xww_setW, xE_new, xsz_new, xsl_new, hx, t1, t3, t2n]; done) | (simp [-List.getD_eq_getElem?_getD, xE_setI, xsz_setI, xsl_setI, xtag_setI, xown_setI, xlen_setI, xE_setR, xsz_setR, xsl_setR, xtag_setR, xown_setR, xlen_setR, xE_setW, xsz_setW, xsl_setW, xtag_setW, xown_setW, xlen_setW, xi_setR, xi_setW, xr_setI, xr_setW, xww_setI, xww_setR, xi_setI, xr_setR, xww_setW, xE_new, xsz_new, xsl_new, hx, t1, t3, t2n]; assumption)) rfl (by rw [t3]; decide) ?_
  refine xw_goto (pc := 21) 32 dX0_covers_21 rfl ?_
  refine xw_iconst (v := nI 0) (pc := 32) dX0_covers_32 rfl ?_
  refine xw_iret (pc := 33) .int dX0_covers_33 rfl ?_ 
  exact ⟨rfl, g1, hc1, rfl⟩

theorem SP_X0_covers_ok0 {d : Nat} {g : xG} {x out : Nat} {p0 p1 p2 p3 : Int32} {E : xG → Prop} (hx : xtag g x = 1) (hE : ∀ g', E g' → xtag g' out = 106 ∧ xown g' out = 4 ∧ xlen g' out = 1) (h : XM M_X1_covers (d + 90) [.ref x, .int p0, .int p1, .int p2, .int p3] g (xVal (.int (bI false)) E)) : XM M_X0_covers (d + 91) [.ref x, .int p0, .int p1, .int p2, .int p3, .ref out] g (xVal (.int (nI 0)) (fun g' => ∃ g1, E g1 ∧ g' = xsetW g1 out 0 ((0 : Int64).toUInt64))) := by
  refine xm_of (by decide +kernel) (Nat.le_of_ble_eq_true rfl) ?_
  show XW _ _ 0 [(0, _), (1, _), (2, _), (3, _), (4, _), (5, _)] [] _ _
  refine xw_aload (pc := 0) dX0_covers_0 5 rfl ?_
  refine xw_iconst (v := nI 0) (pc := 2) dX0_covers_2 rfl ?_
  refine xw_aload_n (pc := 3) dX0_covers_3 0 rfl ?_
  refine xw_iload_n (pc := 4) dX0_covers_4 1 rfl ?_
  refine xw_iload_n (pc := 5) dX0_covers_5 2 rfl ?_
  refine xw_iload_n (pc := 6) dX0_covers_6 3 rfl ?_
  refine xw_iload (pc := 7) dX0_covers_7 4 rfl ?_
  refine xw_callF (pc := 9) (xr_V (as := [_, _, _, _]) ok_X1_covers rfl (by decide) q1508 q1509 q1510 (by rw [hx]; rfl) (by rw [hx]; rfl) dX0_covers_9 rfl rfl (Nat.le_of_ble_eq_true rfl)) (h) ?_
  intro g1 hc1 hm1
  obtain ⟨t1, t2, t3⟩ := hE g1 hc1
  have t2n : xown g1 out ≠ 0 := by rw [t2]; decide
  refine xw_if_eq (pc := 12) 19 dX0_covers_12 rfl (fun _ => ?_) (fun hb => absurd hb (by decide))
  refine xw_lconst (v := 0) (pc := 19) dX0_covers_19 (by decide) ?_
  refine xw_last (k := 0) (pc := 20) dX0_covers_20 (by simp [-List.getD_eq_getElem?_getD, xE_setI, xsz_setI, xsl_setI, xtag_setI, xown_setI, xlen_setI, xE_setR, xsz_setR, xsl_setR, xtag_setR, xown_setR, xlen_setR, xE_setW, xsz_setW, xsl_setW, xtag_setW, xown_setW, xlen_setW, xi_setR, xi_setW, xr_setI, xr_setW, xww_setI, xww_setR, xi_setI, xr_setR, xww_setW, xE_new, xsz_new, xsl_new, hx, t1, t3, t2n]) (by first | assumption | (simp [-List.getD_eq_getElem?_getD, xE_setI, xsz_setI, xsl_setI, xtag_setI, xown_setI, xlen_setI, xE_setR, xsz_setR, xsl_setR, xtag_setR, xown_setR, xlen_setR, xE_setW, xsz_setW, xsl_setW, xtag_setW, xown_setW, xlen_setW, xi_setR, xi_setW, xr_setI, xr_setW, xww_setI, xww_setR, xi_setI, xr_setR, xww_setW, xE_new, xsz_new, xsl_new, hx, t1, t3, t2n]; done) | (simp [-List.getD_eq_getElem?_getD, xE_setI, xsz_setI, xsl_setI, xtag_setI, xown_setI, xlen_setI, xE_setR, xsz_setR, xsl_setR, xtag_setR, xown_setR, xlen_setR, xE_setW, xsz_setW, xsl_setW, xtag_setW, xown_setW, xlen_setW, xi_setR, xi_setW, xr_setI, xr_setW, xww_setI, xww_setR, xi_setI, xr_setR, xww_setW, xE_new, xsz_new, xsl_new, hx, t1, t3, t2n]; assumption)) rfl (by rw [t3]; decide) ?_
  refine xw_goto (pc := 21) 32 dX0_covers_21 rfl ?_
  refine xw_iconst (v := nI 0) (pc := 32) dX0_covers_32 rfl ?_
  refine xw_iret (pc := 33) .int dX0_covers_33 rfl ?_ 
  exact ⟨rfl, g1, hc1, rfl⟩

theorem SP_X0_covers_ok {d : Nat} {g : xG} {x out : Nat} {p0 p1 p2 p3 : Int32} {E : xG → Prop} (hx : xtag g x = 1) (hE : ∀ g', E g' → xtag g' out = 106 ∧ xown g' out = 4 ∧ xlen g' out = 1) {v : Bool} (h : XM M_X1_covers (d + 90) [.ref x, .int p0, .int p1, .int p2, .int p3] g (xVal (.int (bI v)) E)) : XM M_X0_covers (d + 91) [.ref x, .int p0, .int p1, .int p2, .int p3, .ref out] g (xVal (.int (nI 0)) (fun g' => ∃ g1, E g1 ∧ g' = xsetW g1 out 0 ((if v then 1 else 0 : Int64).toUInt64))) := by
  cases v with
  | true => exact SP_X0_covers_ok1 hx hE h
  | false => exact SP_X0_covers_ok0 hx hE h
theorem SP_X0_covers_23 {d : Nat} {g : xG} {x out : Nat} {p0 p1 p2 p3 : Int32} {E : xG → Prop} (hx : xtag g x = 1) (h : XM M_X1_covers (d + 90) [.ref x, .int p0, .int p1, .int p2, .int p3] g (xErr 23 E)) : XM M_X0_covers (d + 91) [.ref x, .int p0, .int p1, .int p2, .int p3, .ref out] g (xVal (.int (nI 1)) E) := by
  refine xm_of (by decide +kernel) (Nat.le_of_ble_eq_true rfl) ?_
  show XW _ _ 0 [(0, _), (1, _), (2, _), (3, _), (4, _), (5, _)] [] _ _
  refine xw_aload (pc := 0) dX0_covers_0 5 rfl ?_
  refine xw_iconst (v := nI 0) (pc := 2) dX0_covers_2 rfl ?_
  refine xw_aload_n (pc := 3) dX0_covers_3 0 rfl ?_
  refine xw_iload_n (pc := 4) dX0_covers_4 1 rfl ?_
  refine xw_iload_n (pc := 5) dX0_covers_5 2 rfl ?_
  refine xw_iload_n (pc := 6) dX0_covers_6 3 rfl ?_
  refine xw_iload (pc := 7) dX0_covers_7 4 rfl ?_
  refine xw_call (pc := 9) (xr_V (as := [_, _, _, _]) ok_X1_covers rfl (by decide) q1508 q1509 q1510 (by rw [hx]; rfl) (by rw [hx]; rfl) dX0_covers_9 rfl rfl (Nat.le_of_ble_eq_true rfl)) (h) ?_
  intro rs g1 hc1 hm1
  obtain ⟨q, rfl, q1, q2, q3⟩ := hc1
  refine xx_catch [] (0, 21, 24, 13) [(0, 21, 28, 21)] rfl (fun z hz => by cases hz) (cvE (by decide) (by decide)) (by decide) q1032 (by rw [q1]; exact q1070) (by rw [q1]; decide) (by rw [q1]; decide) (by rw [q2]; decide) ?_
  refine xw_astore (l' := [(6, _), (0, _), (1, _), (2, _), (3, _), (4, _), (5, _)]) (pc := 24) dX0_covers_24 (by decide) rfl ?_
  refine xw_iconst (v := nI 1) (pc := 26) dX0_covers_26 rfl ?_
  refine xw_iret (pc := 27) .int dX0_covers_27 rfl ?_ 
  exact ⟨rfl, q3⟩

theorem SP_X0_covers_22 {d : Nat} {g : xG} {x out : Nat} {p0 p1 p2 p3 : Int32} {E : xG → Prop} (hx : xtag g x = 1) (h : XM M_X1_covers (d + 90) [.ref x, .int p0, .int p1, .int p2, .int p3] g (xErr 22 E)) : XM M_X0_covers (d + 91) [.ref x, .int p0, .int p1, .int p2, .int p3, .ref out] g (xVal (.int (nI 2)) E) := by
  refine xm_of (by decide +kernel) (Nat.le_of_ble_eq_true rfl) ?_
  show XW _ _ 0 [(0, _), (1, _), (2, _), (3, _), (4, _), (5, _)] [] _ _
  refine xw_aload (pc := 0) dX0_covers_0 5 rfl ?_
  refine xw_iconst (v := nI 0) (pc := 2) dX0_covers_2 rfl ?_
  refine xw_aload_n (pc := 3) dX0_covers_3 0 rfl ?_
  refine xw_iload_n (pc := 4) dX0_covers_4 1 rfl ?_
  refine xw_iload_n (pc := 5) dX0_covers_5 2 rfl ?_
  refine xw_iload_n (pc := 6) dX0_covers_6 3 rfl ?_
  refine xw_iload (pc := 7) dX0_covers_7 4 rfl ?_
  refine xw_call (pc := 9) (xr_V (as := [_, _, _, _]) ok_X1_covers rfl (by decide) q1508 q1509 q1510 (by rw [hx]; rfl) (by rw [hx]; rfl) dX0_covers_9 rfl rfl (Nat.le_of_ble_eq_true rfl)) (h) ?_
  intro rs g1 hc1 hm1
  obtain ⟨q, rfl, q1, q2, q3⟩ := hc1
  have hp : ∀ z ∈ [((0 : Nat), (21 : Nat), (24 : Nat), (13 : Nat))], xNot "PolicyNotationLaw" 9 (xcn (xtag g1 q)) z := by
    intro z hz
    rw [q1]
    have hz2 : z = (0, 21, 24, 13) := by simpa using hz
    subst hz2
    exact Or.inr ⟨by decide, _, q1032, by decide +kernel⟩
  refine xx_catch [(0, 21, 24, 13)] (0, 21, 28, 21) [] rfl hp (cvE (by decide) (by decide)) (by decide) q1175 (by rw [q1]; exact q175) (by rw [q1]; decide) (by rw [q1]; decide) (by rw [q2]; decide) ?_
  refine xw_astore (l' := [(6, _), (0, _), (1, _), (2, _), (3, _), (4, _), (5, _)]) (pc := 28) dX0_covers_28 (by decide) rfl ?_
  refine xw_iconst (v := nI 2) (pc := 30) dX0_covers_30 rfl ?_
  refine xw_iret (pc := 31) .int dX0_covers_31 rfl ?_ 
  exact ⟨rfl, q3⟩

theorem SP_X0_holds_ok1 {d : Nat} {g : xG} {x out : Nat} {p0 p1 p2 p3 : Int32} {E : xG → Prop} (hx : xtag g x = 1) (hE : ∀ g', E g' → xtag g' out = 106 ∧ xown g' out = 4 ∧ xlen g' out = 1) (h : XM M_X1_holds (d + 90) [.ref x, .int p0, .int p1, .int p2, .int p3] g (xVal (.int (bI true)) E)) : XM M_X0_holds (d + 91) [.ref x, .int p0, .int p1, .int p2, .int p3, .ref out] g (xVal (.int (nI 0)) (fun g' => ∃ g1, E g1 ∧ g' = xsetW g1 out 0 ((1 : Int64).toUInt64))) := by
  refine xm_of (by decide +kernel) (Nat.le_of_ble_eq_true rfl) ?_
  show XW _ _ 0 [(0, _), (1, _), (2, _), (3, _), (4, _), (5, _)] [] _ _
  refine xw_aload (pc := 0) dX0_holds_0 5 rfl ?_
  refine xw_iconst (v := nI 0) (pc := 2) dX0_holds_2 rfl ?_
  refine xw_aload_n (pc := 3) dX0_holds_3 0 rfl ?_
  refine xw_iload_n (pc := 4) dX0_holds_4 1 rfl ?_
  refine xw_iload_n (pc := 5) dX0_holds_5 2 rfl ?_
  refine xw_iload_n (pc := 6) dX0_holds_6 3 rfl ?_
  refine xw_iload (pc := 7) dX0_holds_7 4 rfl ?_
  refine xw_callF (pc := 9) (xr_V (as := [_, _, _, _]) ok_X1_holds rfl (by decide) q1525 q1526 q1527 (by rw [hx]; rfl) (by rw [hx]; rfl) dX0_holds_9 rfl rfl (Nat.le_of_ble_eq_true rfl)) (h) ?_
  intro g1 hc1 hm1
  obtain ⟨t1, t2, t3⟩ := hE g1 hc1
  have t2n : xown g1 out ≠ 0 := by rw [t2]; decide
  refine xw_if_eq (pc := 12) 19 dX0_holds_12 rfl (fun hb => absurd hb (by decide)) (fun _ => ?_)
  refine xw_lconst (v := 1) (pc := 15) dX0_holds_15 (by decide) ?_
  refine xw_goto (pc := 16) 20 dX0_holds_16 rfl ?_
  refine xw_last (k := 0) (pc := 20) dX0_holds_20 (by simp [-List.getD_eq_getElem?_getD, xE_setI, xsz_setI, xsl_setI, xtag_setI, xown_setI, xlen_setI, xE_setR, xsz_setR, xsl_setR, xtag_setR, xown_setR, xlen_setR, xE_setW, xsz_setW, xsl_setW, xtag_setW, xown_setW, xlen_setW, xi_setR, xi_setW, xr_setI, xr_setW, xww_setI, xww_setR, xi_setI, xr_setR, xww_setW, xE_new, xsz_new, xsl_new, hx, t1, t3, t2n]) (by first | assumption | (simp [-List.getD_eq_getElem?_getD, xE_setI, xsz_setI, xsl_setI, xtag_setI, xown_setI, xlen_setI, xE_setR, xsz_setR, xsl_setR, xtag_setR, xown_setR, xlen_setR, xE_setW, xsz_setW, xsl_setW, xtag_setW, xown_setW, xlen_setW, xi_setR, xi_setW, xr_setI, xr_setW, xww_setI, xww_setR, xi_setI, xr_setR, xww_setW, xE_new, xsz_new, xsl_new, hx, t1, t3, t2n]; done) | (simp [-List.getD_eq_getElem?_getD, xE_setI, xsz_setI, xsl_setI, xtag_setI, xown_setI, xlen_setI, xE_setR, xsz_setR, xsl_setR, xtag_setR, xown_setR, xlen_setR, xE_setW, xsz_setW, xsl_setW, xtag_setW, xown_setW, xlen_setW, xi_setR, xi_setW, xr_setI, xr_setW, xww_setI, xww_setR, xi_setI, xr_setR, xww_setW, xE_new, xsz_new, xsl_new, hx, t1, t3, t2n]; assumption)) rfl (by rw [t3]; decide) ?_
  refine xw_goto (pc := 21) 32 dX0_holds_21 rfl ?_
  refine xw_iconst (v := nI 0) (pc := 32) dX0_holds_32 rfl ?_
  refine xw_iret (pc := 33) .int dX0_holds_33 rfl ?_ 
  exact ⟨rfl, g1, hc1, rfl⟩

theorem SP_X0_holds_ok0 {d : Nat} {g : xG} {x out : Nat} {p0 p1 p2 p3 : Int32} {E : xG → Prop} (hx : xtag g x = 1) (hE : ∀ g', E g' → xtag g' out = 106 ∧ xown g' out = 4 ∧ xlen g' out = 1) (h : XM M_X1_holds (d + 90) [.ref x, .int p0, .int p1, .int p2, .int p3] g (xVal (.int (bI false)) E)) : XM M_X0_holds (d + 91) [.ref x, .int p0, .int p1, .int p2, .int p3, .ref out] g (xVal (.int (nI 0)) (fun g' => ∃ g1, E g1 ∧ g' = xsetW g1 out 0 ((0 : Int64).toUInt64))) := by
  refine xm_of (by decide +kernel) (Nat.le_of_ble_eq_true rfl) ?_
  show XW _ _ 0 [(0, _), (1, _), (2, _), (3, _), (4, _), (5, _)] [] _ _
  refine xw_aload (pc := 0) dX0_holds_0 5 rfl ?_
  refine xw_iconst (v := nI 0) (pc := 2) dX0_holds_2 rfl ?_
  refine xw_aload_n (pc := 3) dX0_holds_3 0 rfl ?_
  refine xw_iload_n (pc := 4) dX0_holds_4 1 rfl ?_
  refine xw_iload_n (pc := 5) dX0_holds_5 2 rfl ?_
  refine xw_iload_n (pc := 6) dX0_holds_6 3 rfl ?_
  refine xw_iload (pc := 7) dX0_holds_7 4 rfl ?_
  refine xw_callF (pc := 9) (xr_V (as := [_, _, _, _]) ok_X1_holds rfl (by decide) q1525 q1526 q1527 (by rw [hx]; rfl) (by rw [hx]; rfl) dX0_holds_9 rfl rfl (Nat.le_of_ble_eq_true rfl)) (h) ?_
  intro g1 hc1 hm1
  obtain ⟨t1, t2, t3⟩ := hE g1 hc1
  have t2n : xown g1 out ≠ 0 := by rw [t2]; decide
  refine xw_if_eq (pc := 12) 19 dX0_holds_12 rfl (fun _ => ?_) (fun hb => absurd hb (by decide))
  refine xw_lconst (v := 0) (pc := 19) dX0_holds_19 (by decide) ?_
  refine xw_last (k := 0) (pc := 20) dX0_holds_20 (by simp [-List.getD_eq_getElem?_getD, xE_setI, xsz_setI, xsl_setI, xtag_setI, xown_setI, xlen_setI, xE_setR, xsz_setR, xsl_setR, xtag_setR, xown_setR, xlen_setR, xE_setW, xsz_setW, xsl_setW, xtag_setW, xown_setW, xlen_setW, xi_setR, xi_setW, xr_setI, xr_setW, xww_setI, xww_setR, xi_setI, xr_setR, xww_setW, xE_new, xsz_new, xsl_new, hx, t1, t3, t2n]) (by first | assumption | (simp [-List.getD_eq_getElem?_getD, xE_setI, xsz_setI, xsl_setI, xtag_setI, xown_setI, xlen_setI, xE_setR, xsz_setR, xsl_setR, xtag_setR, xown_setR, xlen_setR, xE_setW, xsz_setW, xsl_setW, xtag_setW, xown_setW, xlen_setW, xi_setR, xi_setW, xr_setI, xr_setW, xww_setI, xww_setR, xi_setI, xr_setR, xww_setW, xE_new, xsz_new, xsl_new, hx, t1, t3, t2n]; done) | (simp [-List.getD_eq_getElem?_getD, xE_setI, xsz_setI, xsl_setI, xtag_setI, xown_setI, xlen_setI, xE_setR, xsz_setR, xsl_setR, xtag_setR, xown_setR, xlen_setR, xE_setW, xsz_setW, xsl_setW, xtag_setW, xown_setW, xlen_setW, xi_setR, xi_setW, xr_setI, xr_setW, xww_setI, xww_setR, xi_setI, xr_setR, xww_setW, xE_new, xsz_new, xsl_new, hx, t1, t3, t2n]; assumption)) rfl (by rw [t3]; decide) ?_
  refine xw_goto (pc := 21) 32 dX0_holds_21 rfl ?_
  refine xw_iconst (v := nI 0) (pc := 32) dX0_holds_32 rfl ?_
  refine xw_iret (pc := 33) .int dX0_holds_33 rfl ?_ 
  exact ⟨rfl, g1, hc1, rfl⟩

theorem SP_X0_holds_ok {d : Nat} {g : xG} {x out : Nat} {p0 p1 p2 p3 : Int32} {E : xG → Prop} (hx : xtag g x = 1) (hE : ∀ g', E g' → xtag g' out = 106 ∧ xown g' out = 4 ∧ xlen g' out = 1) {v : Bool} (h : XM M_X1_holds (d + 90) [.ref x, .int p0, .int p1, .int p2, .int p3] g (xVal (.int (bI v)) E)) : XM M_X0_holds (d + 91) [.ref x, .int p0, .int p1, .int p2, .int p3, .ref out] g (xVal (.int (nI 0)) (fun g' => ∃ g1, E g1 ∧ g' = xsetW g1 out 0 ((if v then 1 else 0 : Int64).toUInt64))) := by
  cases v with
  | true => exact SP_X0_holds_ok1 hx hE h
  | false => exact SP_X0_holds_ok0 hx hE h
theorem SP_X0_holds_23 {d : Nat} {g : xG} {x out : Nat} {p0 p1 p2 p3 : Int32} {E : xG → Prop} (hx : xtag g x = 1) (h : XM M_X1_holds (d + 90) [.ref x, .int p0, .int p1, .int p2, .int p3] g (xErr 23 E)) : XM M_X0_holds (d + 91) [.ref x, .int p0, .int p1, .int p2, .int p3, .ref out] g (xVal (.int (nI 1)) E) := by
  refine xm_of (by decide +kernel) (Nat.le_of_ble_eq_true rfl) ?_
  show XW _ _ 0 [(0, _), (1, _), (2, _), (3, _), (4, _), (5, _)] [] _ _
  refine xw_aload (pc := 0) dX0_holds_0 5 rfl ?_
  refine xw_iconst (v := nI 0) (pc := 2) dX0_holds_2 rfl ?_
  refine xw_aload_n (pc := 3) dX0_holds_3 0 rfl ?_
  refine xw_iload_n (pc := 4) dX0_holds_4 1 rfl ?_
  refine xw_iload_n (pc := 5) dX0_holds_5 2 rfl ?_
  refine xw_iload_n (pc := 6) dX0_holds_6 3 rfl ?_
  refine xw_iload (pc := 7) dX0_holds_7 4 rfl ?_
  refine xw_call (pc := 9) (xr_V (as := [_, _, _, _]) ok_X1_holds rfl (by decide) q1525 q1526 q1527 (by rw [hx]; rfl) (by rw [hx]; rfl) dX0_holds_9 rfl rfl (Nat.le_of_ble_eq_true rfl)) (h) ?_
  intro rs g1 hc1 hm1
  obtain ⟨q, rfl, q1, q2, q3⟩ := hc1
  refine xx_catch [] (0, 21, 24, 13) [(0, 21, 28, 21)] rfl (fun z hz => by cases hz) (cvE (by decide) (by decide)) (by decide) q1032 (by rw [q1]; exact q1070) (by rw [q1]; decide) (by rw [q1]; decide) (by rw [q2]; decide) ?_
  refine xw_astore (l' := [(6, _), (0, _), (1, _), (2, _), (3, _), (4, _), (5, _)]) (pc := 24) dX0_holds_24 (by decide) rfl ?_
  refine xw_iconst (v := nI 1) (pc := 26) dX0_holds_26 rfl ?_
  refine xw_iret (pc := 27) .int dX0_holds_27 rfl ?_ 
  exact ⟨rfl, q3⟩

theorem SP_X0_holds_22 {d : Nat} {g : xG} {x out : Nat} {p0 p1 p2 p3 : Int32} {E : xG → Prop} (hx : xtag g x = 1) (h : XM M_X1_holds (d + 90) [.ref x, .int p0, .int p1, .int p2, .int p3] g (xErr 22 E)) : XM M_X0_holds (d + 91) [.ref x, .int p0, .int p1, .int p2, .int p3, .ref out] g (xVal (.int (nI 2)) E) := by
  refine xm_of (by decide +kernel) (Nat.le_of_ble_eq_true rfl) ?_
  show XW _ _ 0 [(0, _), (1, _), (2, _), (3, _), (4, _), (5, _)] [] _ _
  refine xw_aload (pc := 0) dX0_holds_0 5 rfl ?_
  refine xw_iconst (v := nI 0) (pc := 2) dX0_holds_2 rfl ?_
  refine xw_aload_n (pc := 3) dX0_holds_3 0 rfl ?_
  refine xw_iload_n (pc := 4) dX0_holds_4 1 rfl ?_
  refine xw_iload_n (pc := 5) dX0_holds_5 2 rfl ?_
  refine xw_iload_n (pc := 6) dX0_holds_6 3 rfl ?_
  refine xw_iload (pc := 7) dX0_holds_7 4 rfl ?_
  refine xw_call (pc := 9) (xr_V (as := [_, _, _, _]) ok_X1_holds rfl (by decide) q1525 q1526 q1527 (by rw [hx]; rfl) (by rw [hx]; rfl) dX0_holds_9 rfl rfl (Nat.le_of_ble_eq_true rfl)) (h) ?_
  intro rs g1 hc1 hm1
  obtain ⟨q, rfl, q1, q2, q3⟩ := hc1
  have hp : ∀ z ∈ [((0 : Nat), (21 : Nat), (24 : Nat), (13 : Nat))], xNot "PolicyNotationLaw" 9 (xcn (xtag g1 q)) z := by
    intro z hz
    rw [q1]
    have hz2 : z = (0, 21, 24, 13) := by simpa using hz
    subst hz2
    exact Or.inr ⟨by decide, _, q1032, by decide +kernel⟩
  refine xx_catch [(0, 21, 24, 13)] (0, 21, 28, 21) [] rfl hp (cvE (by decide) (by decide)) (by decide) q1175 (by rw [q1]; exact q175) (by rw [q1]; decide) (by rw [q1]; decide) (by rw [q2]; decide) ?_
  refine xw_astore (l' := [(6, _), (0, _), (1, _), (2, _), (3, _), (4, _), (5, _)]) (pc := 28) dX0_holds_28 (by decide) rfl ?_
  refine xw_iconst (v := nI 2) (pc := 30) dX0_holds_30 rfl ?_
  refine xw_iret (pc := 31) .int dX0_holds_31 rfl ?_ 
  exact ⟨rfl, q3⟩

theorem SP_X0_holdsAgain_ok1 {d : Nat} {g : xG} {x out : Nat} {p0 p1 p2 p3 : Int32} {E : xG → Prop} (hx : xtag g x = 1) (hE : ∀ g', E g' → xtag g' out = 106 ∧ xown g' out = 4 ∧ xlen g' out = 1) (h : XM M_X1_holdsAgain (d + 90) [.ref x, .int p0, .int p1, .int p2, .int p3] g (xVal (.int (bI true)) E)) : XM M_X0_holdsAgain (d + 91) [.ref x, .int p0, .int p1, .int p2, .int p3, .ref out] g (xVal (.int (nI 0)) (fun g' => ∃ g1, E g1 ∧ g' = xsetW g1 out 0 ((1 : Int64).toUInt64))) := by
  refine xm_of (by decide +kernel) (Nat.le_of_ble_eq_true rfl) ?_
  show XW _ _ 0 [(0, _), (1, _), (2, _), (3, _), (4, _), (5, _)] [] _ _
  refine xw_aload (pc := 0) dX0_holdsAgain_0 5 rfl ?_
  refine xw_iconst (v := nI 0) (pc := 2) dX0_holdsAgain_2 rfl ?_
  refine xw_aload_n (pc := 3) dX0_holdsAgain_3 0 rfl ?_
  refine xw_iload_n (pc := 4) dX0_holdsAgain_4 1 rfl ?_
  refine xw_iload_n (pc := 5) dX0_holdsAgain_5 2 rfl ?_
  refine xw_iload_n (pc := 6) dX0_holdsAgain_6 3 rfl ?_
  refine xw_iload (pc := 7) dX0_holdsAgain_7 4 rfl ?_
  refine xw_callF (pc := 9) (xr_V (as := [_, _, _, _]) ok_X1_holdsAgain rfl (by decide) q1533 q1534 q1535 (by rw [hx]; rfl) (by rw [hx]; rfl) dX0_holdsAgain_9 rfl rfl (Nat.le_of_ble_eq_true rfl)) (h) ?_
  intro g1 hc1 hm1
  obtain ⟨t1, t2, t3⟩ := hE g1 hc1
  have t2n : xown g1 out ≠ 0 := by rw [t2]; decide
  refine xw_if_eq (pc := 12) 19 dX0_holdsAgain_12 rfl (fun hb => absurd hb (by decide)) (fun _ => ?_)
  refine xw_lconst (v := 1) (pc := 15) dX0_holdsAgain_15 (by decide) ?_
  refine xw_goto (pc := 16) 20 dX0_holdsAgain_16 rfl ?_
  refine xw_last (k := 0) (pc := 20) dX0_holdsAgain_20 (by simp [-List.getD_eq_getElem?_getD, xE_setI, xsz_setI, xsl_setI, xtag_setI, xown_setI, xlen_setI, xE_setR, xsz_setR, xsl_setR, xtag_setR, xown_setR, xlen_setR, xE_setW, xsz_setW, xsl_setW, xtag_setW, xown_setW, xlen_setW, xi_setR, xi_setW, xr_setI, xr_setW, xww_setI, xww_setR, xi_setI, xr_setR, xww_setW, xE_new, xsz_new, xsl_new, hx, t1, t3, t2n]) (by first | assumption | (simp [-List.getD_eq_getElem?_getD, xE_setI, xsz_setI, xsl_setI, xtag_setI, xown_setI, xlen_setI, xE_setR, xsz_setR, xsl_setR, xtag_setR, xown_setR, xlen_setR, xE_setW, xsz_setW, xsl_setW, xtag_setW, xown_setW, xlen_setW, xi_setR, xi_setW, xr_setI, xr_setW, xww_setI, xww_setR, xi_setI, xr_setR, xww_setW, xE_new, xsz_new, xsl_new, hx, t1, t3, t2n]; done) | (simp [-List.getD_eq_getElem?_getD, xE_setI, xsz_setI, xsl_setI, xtag_setI, xown_setI, xlen_setI, xE_setR, xsz_setR, xsl_setR, xtag_setR, xown_setR, xlen_setR, xE_setW, xsz_setW, xsl_setW, xtag_setW, xown_setW, xlen_setW, xi_setR, xi_setW, xr_setI, xr_setW, xww_setI, xww_setR, xi_setI, xr_setR, xww_setW, xE_new, xsz_new, xsl_new, hx, t1, t3, t2n]; assumption)) rfl (by rw [t3]; decide) ?_
  refine xw_goto (pc := 21) 32 dX0_holdsAgain_21 rfl ?_
  refine xw_iconst (v := nI 0) (pc := 32) dX0_holdsAgain_32 rfl ?_
  refine xw_iret (pc := 33) .int dX0_holdsAgain_33 rfl ?_ 
  exact ⟨rfl, g1, hc1, rfl⟩

theorem SP_X0_holdsAgain_ok0 {d : Nat} {g : xG} {x out : Nat} {p0 p1 p2 p3 : Int32} {E : xG → Prop} (hx : xtag g x = 1) (hE : ∀ g', E g' → xtag g' out = 106 ∧ xown g' out = 4 ∧ xlen g' out = 1) (h : XM M_X1_holdsAgain (d + 90) [.ref x, .int p0, .int p1, .int p2, .int p3] g (xVal (.int (bI false)) E)) : XM M_X0_holdsAgain (d + 91) [.ref x, .int p0, .int p1, .int p2, .int p3, .ref out] g (xVal (.int (nI 0)) (fun g' => ∃ g1, E g1 ∧ g' = xsetW g1 out 0 ((0 : Int64).toUInt64))) := by
  refine xm_of (by decide +kernel) (Nat.le_of_ble_eq_true rfl) ?_
  show XW _ _ 0 [(0, _), (1, _), (2, _), (3, _), (4, _), (5, _)] [] _ _
  refine xw_aload (pc := 0) dX0_holdsAgain_0 5 rfl ?_
  refine xw_iconst (v := nI 0) (pc := 2) dX0_holdsAgain_2 rfl ?_
  refine xw_aload_n (pc := 3) dX0_holdsAgain_3 0 rfl ?_
  refine xw_iload_n (pc := 4) dX0_holdsAgain_4 1 rfl ?_
  refine xw_iload_n (pc := 5) dX0_holdsAgain_5 2 rfl ?_
  refine xw_iload_n (pc := 6) dX0_holdsAgain_6 3 rfl ?_
  refine xw_iload (pc := 7) dX0_holdsAgain_7 4 rfl ?_
  refine xw_callF (pc := 9) (xr_V (as := [_, _, _, _]) ok_X1_holdsAgain rfl (by decide) q1533 q1534 q1535 (by rw [hx]; rfl) (by rw [hx]; rfl) dX0_holdsAgain_9 rfl rfl (Nat.le_of_ble_eq_true rfl)) (h) ?_
  intro g1 hc1 hm1
  obtain ⟨t1, t2, t3⟩ := hE g1 hc1
  have t2n : xown g1 out ≠ 0 := by rw [t2]; decide
  refine xw_if_eq (pc := 12) 19 dX0_holdsAgain_12 rfl (fun _ => ?_) (fun hb => absurd hb (by decide))
  refine xw_lconst (v := 0) (pc := 19) dX0_holdsAgain_19 (by decide) ?_
  refine xw_last (k := 0) (pc := 20) dX0_holdsAgain_20 (by simp [-List.getD_eq_getElem?_getD, xE_setI, xsz_setI, xsl_setI, xtag_setI, xown_setI, xlen_setI, xE_setR, xsz_setR, xsl_setR, xtag_setR, xown_setR, xlen_setR, xE_setW, xsz_setW, xsl_setW, xtag_setW, xown_setW, xlen_setW, xi_setR, xi_setW, xr_setI, xr_setW, xww_setI, xww_setR, xi_setI, xr_setR, xww_setW, xE_new, xsz_new, xsl_new, hx, t1, t3, t2n]) (by first | assumption | (simp [-List.getD_eq_getElem?_getD, xE_setI, xsz_setI, xsl_setI, xtag_setI, xown_setI, xlen_setI, xE_setR, xsz_setR, xsl_setR, xtag_setR, xown_setR, xlen_setR, xE_setW, xsz_setW, xsl_setW, xtag_setW, xown_setW, xlen_setW, xi_setR, xi_setW, xr_setI, xr_setW, xww_setI, xww_setR, xi_setI, xr_setR, xww_setW, xE_new, xsz_new, xsl_new, hx, t1, t3, t2n]; done) | (simp [-List.getD_eq_getElem?_getD, xE_setI, xsz_setI, xsl_setI, xtag_setI, xown_setI, xlen_setI, xE_setR, xsz_setR, xsl_setR, xtag_setR, xown_setR, xlen_setR, xE_setW, xsz_setW, xsl_setW, xtag_setW, xown_setW, xlen_setW, xi_setR, xi_setW, xr_setI, xr_setW, xww_setI, xww_setR, xi_setI, xr_setR, xww_setW, xE_new, xsz_new, xsl_new, hx, t1, t3, t2n]; assumption)) rfl (by rw [t3]; decide) ?_
  refine xw_goto (pc := 21) 32 dX0_holdsAgain_21 rfl ?_
  refine xw_iconst (v := nI 0) (pc := 32) dX0_holdsAgain_32 rfl ?_
  refine xw_iret (pc := 33) .int dX0_holdsAgain_33 rfl ?_ 
  exact ⟨rfl, g1, hc1, rfl⟩

theorem SP_X0_holdsAgain_ok {d : Nat} {g : xG} {x out : Nat} {p0 p1 p2 p3 : Int32} {E : xG → Prop} (hx : xtag g x = 1) (hE : ∀ g', E g' → xtag g' out = 106 ∧ xown g' out = 4 ∧ xlen g' out = 1) {v : Bool} (h : XM M_X1_holdsAgain (d + 90) [.ref x, .int p0, .int p1, .int p2, .int p3] g (xVal (.int (bI v)) E)) : XM M_X0_holdsAgain (d + 91) [.ref x, .int p0, .int p1, .int p2, .int p3, .ref out] g (xVal (.int (nI 0)) (fun g' => ∃ g1, E g1 ∧ g' = xsetW g1 out 0 ((if v then 1 else 0 : Int64).toUInt64))) := by
  cases v with
  | true => exact SP_X0_holdsAgain_ok1 hx hE h
  | false => exact SP_X0_holdsAgain_ok0 hx hE h
theorem SP_X0_holdsAgain_23 {d : Nat} {g : xG} {x out : Nat} {p0 p1 p2 p3 : Int32} {E : xG → Prop} (hx : xtag g x = 1) (h : XM M_X1_holdsAgain (d + 90) [.ref x, .int p0, .int p1, .int p2, .int p3] g (xErr 23 E)) : XM M_X0_holdsAgain (d + 91) [.ref x, .int p0, .int p1, .int p2, .int p3, .ref out] g (xVal (.int (nI 1)) E) := by
  refine xm_of (by decide +kernel) (Nat.le_of_ble_eq_true rfl) ?_
  show XW _ _ 0 [(0, _), (1, _), (2, _), (3, _), (4, _), (5, _)] [] _ _
  refine xw_aload (pc := 0) dX0_holdsAgain_0 5 rfl ?_
  refine xw_iconst (v := nI 0) (pc := 2) dX0_holdsAgain_2 rfl ?_
  refine xw_aload_n (pc := 3) dX0_holdsAgain_3 0 rfl ?_
  refine xw_iload_n (pc := 4) dX0_holdsAgain_4 1 rfl ?_
  refine xw_iload_n (pc := 5) dX0_holdsAgain_5 2 rfl ?_
  refine xw_iload_n (pc := 6) dX0_holdsAgain_6 3 rfl ?_
  refine xw_iload (pc := 7) dX0_holdsAgain_7 4 rfl ?_
  refine xw_call (pc := 9) (xr_V (as := [_, _, _, _]) ok_X1_holdsAgain rfl (by decide) q1533 q1534 q1535 (by rw [hx]; rfl) (by rw [hx]; rfl) dX0_holdsAgain_9 rfl rfl (Nat.le_of_ble_eq_true rfl)) (h) ?_
  intro rs g1 hc1 hm1
  obtain ⟨q, rfl, q1, q2, q3⟩ := hc1
  refine xx_catch [] (0, 21, 24, 13) [(0, 21, 28, 21)] rfl (fun z hz => by cases hz) (cvE (by decide) (by decide)) (by decide) q1032 (by rw [q1]; exact q1070) (by rw [q1]; decide) (by rw [q1]; decide) (by rw [q2]; decide) ?_
  refine xw_astore (l' := [(6, _), (0, _), (1, _), (2, _), (3, _), (4, _), (5, _)]) (pc := 24) dX0_holdsAgain_24 (by decide) rfl ?_
  refine xw_iconst (v := nI 1) (pc := 26) dX0_holdsAgain_26 rfl ?_
  refine xw_iret (pc := 27) .int dX0_holdsAgain_27 rfl ?_ 
  exact ⟨rfl, q3⟩

theorem SP_X0_holdsAgain_22 {d : Nat} {g : xG} {x out : Nat} {p0 p1 p2 p3 : Int32} {E : xG → Prop} (hx : xtag g x = 1) (h : XM M_X1_holdsAgain (d + 90) [.ref x, .int p0, .int p1, .int p2, .int p3] g (xErr 22 E)) : XM M_X0_holdsAgain (d + 91) [.ref x, .int p0, .int p1, .int p2, .int p3, .ref out] g (xVal (.int (nI 2)) E) := by
  refine xm_of (by decide +kernel) (Nat.le_of_ble_eq_true rfl) ?_
  show XW _ _ 0 [(0, _), (1, _), (2, _), (3, _), (4, _), (5, _)] [] _ _
  refine xw_aload (pc := 0) dX0_holdsAgain_0 5 rfl ?_
  refine xw_iconst (v := nI 0) (pc := 2) dX0_holdsAgain_2 rfl ?_
  refine xw_aload_n (pc := 3) dX0_holdsAgain_3 0 rfl ?_
  refine xw_iload_n (pc := 4) dX0_holdsAgain_4 1 rfl ?_
  refine xw_iload_n (pc := 5) dX0_holdsAgain_5 2 rfl ?_
  refine xw_iload_n (pc := 6) dX0_holdsAgain_6 3 rfl ?_
  refine xw_iload (pc := 7) dX0_holdsAgain_7 4 rfl ?_
  refine xw_call (pc := 9) (xr_V (as := [_, _, _, _]) ok_X1_holdsAgain rfl (by decide) q1533 q1534 q1535 (by rw [hx]; rfl) (by rw [hx]; rfl) dX0_holdsAgain_9 rfl rfl (Nat.le_of_ble_eq_true rfl)) (h) ?_
  intro rs g1 hc1 hm1
  obtain ⟨q, rfl, q1, q2, q3⟩ := hc1
  have hp : ∀ z ∈ [((0 : Nat), (21 : Nat), (24 : Nat), (13 : Nat))], xNot "PolicyNotationLaw" 9 (xcn (xtag g1 q)) z := by
    intro z hz
    rw [q1]
    have hz2 : z = (0, 21, 24, 13) := by simpa using hz
    subst hz2
    exact Or.inr ⟨by decide, _, q1032, by decide +kernel⟩
  refine xx_catch [(0, 21, 24, 13)] (0, 21, 28, 21) [] rfl hp (cvE (by decide) (by decide)) (by decide) q1175 (by rw [q1]; exact q175) (by rw [q1]; decide) (by rw [q1]; decide) (by rw [q2]; decide) ?_
  refine xw_astore (l' := [(6, _), (0, _), (1, _), (2, _), (3, _), (4, _), (5, _)]) (pc := 28) dX0_holdsAgain_28 (by decide) rfl ?_
  refine xw_iconst (v := nI 2) (pc := 30) dX0_holdsAgain_30 rfl ?_
  refine xw_iret (pc := 31) .int dX0_holdsAgain_31 rfl ?_ 
  exact ⟨rfl, q3⟩

theorem SP_X0_outcome_ok {d : Nat} {g : xG} {x out : Nat} {p0 p1 p2 : Int32} {E : xG → Prop} (hx : xtag g x = 1) (hE : ∀ g', E g' → xtag g' out = 106 ∧ xown g' out = 4 ∧ xlen g' out = 1) {v : Int32} (h : XM M_X1_outcome (d + 90) [.ref x, .int p0, .int p1, .int p2] g (xVal (.int v) E)) : XM M_X0_outcome (d + 91) [.ref x, .int p0, .int p1, .int p2, .ref out] g (xVal (.int (nI 0)) (fun g' => ∃ g1, E g1 ∧ g' = xsetW g1 out 0 (v.toInt64.toUInt64))) := by
  refine xm_of (by decide +kernel) (Nat.le_of_ble_eq_true rfl) ?_
  show XW _ _ 0 [(0, _), (1, _), (2, _), (3, _), (4, _)] [] _ _
  refine xw_aload (pc := 0) dX0_outcome_0 4 rfl ?_
  refine xw_iconst (v := nI 0) (pc := 2) dX0_outcome_2 rfl ?_
  refine xw_aload_n (pc := 3) dX0_outcome_3 0 rfl ?_
  refine xw_iload_n (pc := 4) dX0_outcome_4 1 rfl ?_
  refine xw_iload_n (pc := 5) dX0_outcome_5 2 rfl ?_
  refine xw_iload_n (pc := 6) dX0_outcome_6 3 rfl ?_
  refine xw_callF (pc := 7) (xr_V (as := [_, _, _]) ok_X1_outcome rfl (by decide) q1547 q1548 q1549 (by rw [hx]; rfl) (by rw [hx]; rfl) dX0_outcome_7 rfl rfl (Nat.le_of_ble_eq_true rfl)) (h) ?_
  intro g1 hc1 hm1
  obtain ⟨t1, t2, t3⟩ := hE g1 hc1
  have t2n : xown g1 out ≠ 0 := by rw [t2]; decide
  refine xw_i2l (pc := 10) dX0_outcome_10 ?_
  refine xw_last (k := 0) (pc := 11) dX0_outcome_11 (by simp [-List.getD_eq_getElem?_getD, xE_setI, xsz_setI, xsl_setI, xtag_setI, xown_setI, xlen_setI, xE_setR, xsz_setR, xsl_setR, xtag_setR, xown_setR, xlen_setR, xE_setW, xsz_setW, xsl_setW, xtag_setW, xown_setW, xlen_setW, xi_setR, xi_setW, xr_setI, xr_setW, xww_setI, xww_setR, xi_setI, xr_setR, xww_setW, xE_new, xsz_new, xsl_new, hx, t1, t3, t2n]) (by first | assumption | (simp [-List.getD_eq_getElem?_getD, xE_setI, xsz_setI, xsl_setI, xtag_setI, xown_setI, xlen_setI, xE_setR, xsz_setR, xsl_setR, xtag_setR, xown_setR, xlen_setR, xE_setW, xsz_setW, xsl_setW, xtag_setW, xown_setW, xlen_setW, xi_setR, xi_setW, xr_setI, xr_setW, xww_setI, xww_setR, xi_setI, xr_setR, xww_setW, xE_new, xsz_new, xsl_new, hx, t1, t3, t2n]; done) | (simp [-List.getD_eq_getElem?_getD, xE_setI, xsz_setI, xsl_setI, xtag_setI, xown_setI, xlen_setI, xE_setR, xsz_setR, xsl_setR, xtag_setR, xown_setR, xlen_setR, xE_setW, xsz_setW, xsl_setW, xtag_setW, xown_setW, xlen_setW, xi_setR, xi_setW, xr_setI, xr_setW, xww_setI, xww_setR, xi_setI, xr_setR, xww_setW, xE_new, xsz_new, xsl_new, hx, t1, t3, t2n]; assumption)) rfl (by rw [t3]; decide) ?_
  refine xw_goto (pc := 12) 23 dX0_outcome_12 rfl ?_
  refine xw_iconst (v := nI 0) (pc := 23) dX0_outcome_23 rfl ?_
  refine xw_iret (pc := 24) .int dX0_outcome_24 rfl ?_ 
  exact ⟨rfl, g1, hc1, rfl⟩

theorem SP_X0_outcome_23 {d : Nat} {g : xG} {x out : Nat} {p0 p1 p2 : Int32} {E : xG → Prop} (hx : xtag g x = 1) (h : XM M_X1_outcome (d + 90) [.ref x, .int p0, .int p1, .int p2] g (xErr 23 E)) : XM M_X0_outcome (d + 91) [.ref x, .int p0, .int p1, .int p2, .ref out] g (xVal (.int (nI 1)) E) := by
  refine xm_of (by decide +kernel) (Nat.le_of_ble_eq_true rfl) ?_
  show XW _ _ 0 [(0, _), (1, _), (2, _), (3, _), (4, _)] [] _ _
  refine xw_aload (pc := 0) dX0_outcome_0 4 rfl ?_
  refine xw_iconst (v := nI 0) (pc := 2) dX0_outcome_2 rfl ?_
  refine xw_aload_n (pc := 3) dX0_outcome_3 0 rfl ?_
  refine xw_iload_n (pc := 4) dX0_outcome_4 1 rfl ?_
  refine xw_iload_n (pc := 5) dX0_outcome_5 2 rfl ?_
  refine xw_iload_n (pc := 6) dX0_outcome_6 3 rfl ?_
  refine xw_call (pc := 7) (xr_V (as := [_, _, _]) ok_X1_outcome rfl (by decide) q1547 q1548 q1549 (by rw [hx]; rfl) (by rw [hx]; rfl) dX0_outcome_7 rfl rfl (Nat.le_of_ble_eq_true rfl)) (h) ?_
  intro rs g1 hc1 hm1
  obtain ⟨q, rfl, q1, q2, q3⟩ := hc1
  refine xx_catch [] (0, 12, 15, 13) [(0, 12, 19, 21)] rfl (fun z hz => by cases hz) (cvE (by decide) (by decide)) (by decide) q1032 (by rw [q1]; exact q1070) (by rw [q1]; decide) (by rw [q1]; decide) (by rw [q2]; decide) ?_
  refine xw_astore (l' := [(5, _), (0, _), (1, _), (2, _), (3, _), (4, _)]) (pc := 15) dX0_outcome_15 (by decide) rfl ?_
  refine xw_iconst (v := nI 1) (pc := 17) dX0_outcome_17 rfl ?_
  refine xw_iret (pc := 18) .int dX0_outcome_18 rfl ?_ 
  exact ⟨rfl, q3⟩

theorem SP_X0_outcome_22 {d : Nat} {g : xG} {x out : Nat} {p0 p1 p2 : Int32} {E : xG → Prop} (hx : xtag g x = 1) (h : XM M_X1_outcome (d + 90) [.ref x, .int p0, .int p1, .int p2] g (xErr 22 E)) : XM M_X0_outcome (d + 91) [.ref x, .int p0, .int p1, .int p2, .ref out] g (xVal (.int (nI 2)) E) := by
  refine xm_of (by decide +kernel) (Nat.le_of_ble_eq_true rfl) ?_
  show XW _ _ 0 [(0, _), (1, _), (2, _), (3, _), (4, _)] [] _ _
  refine xw_aload (pc := 0) dX0_outcome_0 4 rfl ?_
  refine xw_iconst (v := nI 0) (pc := 2) dX0_outcome_2 rfl ?_
  refine xw_aload_n (pc := 3) dX0_outcome_3 0 rfl ?_
  refine xw_iload_n (pc := 4) dX0_outcome_4 1 rfl ?_
  refine xw_iload_n (pc := 5) dX0_outcome_5 2 rfl ?_
  refine xw_iload_n (pc := 6) dX0_outcome_6 3 rfl ?_
  refine xw_call (pc := 7) (xr_V (as := [_, _, _]) ok_X1_outcome rfl (by decide) q1547 q1548 q1549 (by rw [hx]; rfl) (by rw [hx]; rfl) dX0_outcome_7 rfl rfl (Nat.le_of_ble_eq_true rfl)) (h) ?_
  intro rs g1 hc1 hm1
  obtain ⟨q, rfl, q1, q2, q3⟩ := hc1
  have hp : ∀ z ∈ [((0 : Nat), (12 : Nat), (15 : Nat), (13 : Nat))], xNot "PolicyNotationLaw" 7 (xcn (xtag g1 q)) z := by
    intro z hz
    rw [q1]
    have hz2 : z = (0, 12, 15, 13) := by simpa using hz
    subst hz2
    exact Or.inr ⟨by decide, _, q1032, by decide +kernel⟩
  refine xx_catch [(0, 12, 15, 13)] (0, 12, 19, 21) [] rfl hp (cvE (by decide) (by decide)) (by decide) q1175 (by rw [q1]; exact q175) (by rw [q1]; decide) (by rw [q1]; decide) (by rw [q2]; decide) ?_
  refine xw_astore (l' := [(5, _), (0, _), (1, _), (2, _), (3, _), (4, _)]) (pc := 19) dX0_outcome_19 (by decide) rfl ?_
  refine xw_iconst (v := nI 2) (pc := 21) dX0_outcome_21 rfl ?_
  refine xw_iret (pc := 22) .int dX0_outcome_22 rfl ?_ 
  exact ⟨rfl, q3⟩

theorem SP_X0_chain_ok {d : Nat} {g : xG} {x out : Nat} {p0 p1 p2 p3 : Int32} {E : xG → Prop} (hx : xtag g x = 1) (hE : ∀ g', E g' → xtag g' out = 106 ∧ xown g' out = 4 ∧ xlen g' out = 1) {v : Int32} (h : XM M_X1_chain (d + 90) [.ref x, .int p0, .int p1, .int p2, .int p3] g (xVal (.int v) E)) : XM M_X0_chain (d + 91) [.ref x, .int p0, .int p1, .int p2, .int p3, .ref out] g (xVal (.int (nI 0)) (fun g' => ∃ g1, E g1 ∧ g' = xsetW g1 out 0 (v.toInt64.toUInt64))) := by
  refine xm_of (by decide +kernel) (Nat.le_of_ble_eq_true rfl) ?_
  show XW _ _ 0 [(0, _), (1, _), (2, _), (3, _), (4, _), (5, _)] [] _ _
  refine xw_aload (pc := 0) dX0_chain_0 5 rfl ?_
  refine xw_iconst (v := nI 0) (pc := 2) dX0_chain_2 rfl ?_
  refine xw_aload_n (pc := 3) dX0_chain_3 0 rfl ?_
  refine xw_iload_n (pc := 4) dX0_chain_4 1 rfl ?_
  refine xw_iload_n (pc := 5) dX0_chain_5 2 rfl ?_
  refine xw_iload_n (pc := 6) dX0_chain_6 3 rfl ?_
  refine xw_iload (pc := 7) dX0_chain_7 4 rfl ?_
  refine xw_callF (pc := 9) (xr_V (as := [_, _, _, _]) ok_X1_chain rfl (by decide) q1554 q1555 q1556 (by rw [hx]; rfl) (by rw [hx]; rfl) dX0_chain_9 rfl rfl (Nat.le_of_ble_eq_true rfl)) (h) ?_
  intro g1 hc1 hm1
  obtain ⟨t1, t2, t3⟩ := hE g1 hc1
  have t2n : xown g1 out ≠ 0 := by rw [t2]; decide
  refine xw_i2l (pc := 12) dX0_chain_12 ?_
  refine xw_last (k := 0) (pc := 13) dX0_chain_13 (by simp [-List.getD_eq_getElem?_getD, xE_setI, xsz_setI, xsl_setI, xtag_setI, xown_setI, xlen_setI, xE_setR, xsz_setR, xsl_setR, xtag_setR, xown_setR, xlen_setR, xE_setW, xsz_setW, xsl_setW, xtag_setW, xown_setW, xlen_setW, xi_setR, xi_setW, xr_setI, xr_setW, xww_setI, xww_setR, xi_setI, xr_setR, xww_setW, xE_new, xsz_new, xsl_new, hx, t1, t3, t2n]) (by first | assumption | (simp [-List.getD_eq_getElem?_getD, xE_setI, xsz_setI, xsl_setI, xtag_setI, xown_setI, xlen_setI, xE_setR, xsz_setR, xsl_setR, xtag_setR, xown_setR, xlen_setR, xE_setW, xsz_setW, xsl_setW, xtag_setW, xown_setW, xlen_setW, xi_setR, xi_setW, xr_setI, xr_setW, xww_setI, xww_setR, xi_setI, xr_setR, xww_setW, xE_new, xsz_new, xsl_new, hx, t1, t3, t2n]; done) | (simp [-List.getD_eq_getElem?_getD, xE_setI, xsz_setI, xsl_setI, xtag_setI, xown_setI, xlen_setI, xE_setR, xsz_setR, xsl_setR, xtag_setR, xown_setR, xlen_setR, xE_setW, xsz_setW, xsl_setW, xtag_setW, xown_setW, xlen_setW, xi_setR, xi_setW, xr_setI, xr_setW, xww_setI, xww_setR, xi_setI, xr_setR, xww_setW, xE_new, xsz_new, xsl_new, hx, t1, t3, t2n]; assumption)) rfl (by rw [t3]; decide) ?_
  refine xw_goto (pc := 14) 29 dX0_chain_14 rfl ?_
  refine xw_iconst (v := nI 0) (pc := 29) dX0_chain_29 rfl ?_
  refine xw_iret (pc := 30) .int dX0_chain_30 rfl ?_ 
  exact ⟨rfl, g1, hc1, rfl⟩

theorem SP_X0_chain_23 {d : Nat} {g : xG} {x out : Nat} {p0 p1 p2 p3 : Int32} {E : xG → Prop} (hx : xtag g x = 1) (h : XM M_X1_chain (d + 90) [.ref x, .int p0, .int p1, .int p2, .int p3] g (xErr 23 E)) : XM M_X0_chain (d + 91) [.ref x, .int p0, .int p1, .int p2, .int p3, .ref out] g (xVal (.int (nI 1)) E) := by
  refine xm_of (by decide +kernel) (Nat.le_of_ble_eq_true rfl) ?_
  show XW _ _ 0 [(0, _), (1, _), (2, _), (3, _), (4, _), (5, _)] [] _ _
  refine xw_aload (pc := 0) dX0_chain_0 5 rfl ?_
  refine xw_iconst (v := nI 0) (pc := 2) dX0_chain_2 rfl ?_
  refine xw_aload_n (pc := 3) dX0_chain_3 0 rfl ?_
  refine xw_iload_n (pc := 4) dX0_chain_4 1 rfl ?_
  refine xw_iload_n (pc := 5) dX0_chain_5 2 rfl ?_
  refine xw_iload_n (pc := 6) dX0_chain_6 3 rfl ?_
  refine xw_iload (pc := 7) dX0_chain_7 4 rfl ?_
  refine xw_call (pc := 9) (xr_V (as := [_, _, _, _]) ok_X1_chain rfl (by decide) q1554 q1555 q1556 (by rw [hx]; rfl) (by rw [hx]; rfl) dX0_chain_9 rfl rfl (Nat.le_of_ble_eq_true rfl)) (h) ?_
  intro rs g1 hc1 hm1
  obtain ⟨q, rfl, q1, q2, q3⟩ := hc1
  refine xx_catch [] (0, 14, 17, 13) [(0, 14, 21, 21), (0, 14, 25, 56)] rfl (fun z hz => by cases hz) (cvE (by decide) (by decide)) (by decide) q1032 (by rw [q1]; exact q1070) (by rw [q1]; decide) (by rw [q1]; decide) (by rw [q2]; decide) ?_
  refine xw_astore (l' := [(6, _), (0, _), (1, _), (2, _), (3, _), (4, _), (5, _)]) (pc := 17) dX0_chain_17 (by decide) rfl ?_
  refine xw_iconst (v := nI 1) (pc := 19) dX0_chain_19 rfl ?_
  refine xw_iret (pc := 20) .int dX0_chain_20 rfl ?_ 
  exact ⟨rfl, q3⟩

theorem SP_X0_chain_22 {d : Nat} {g : xG} {x out : Nat} {p0 p1 p2 p3 : Int32} {E : xG → Prop} (hx : xtag g x = 1) (h : XM M_X1_chain (d + 90) [.ref x, .int p0, .int p1, .int p2, .int p3] g (xErr 22 E)) : XM M_X0_chain (d + 91) [.ref x, .int p0, .int p1, .int p2, .int p3, .ref out] g (xVal (.int (nI 2)) E) := by
  refine xm_of (by decide +kernel) (Nat.le_of_ble_eq_true rfl) ?_
  show XW _ _ 0 [(0, _), (1, _), (2, _), (3, _), (4, _), (5, _)] [] _ _
  refine xw_aload (pc := 0) dX0_chain_0 5 rfl ?_
  refine xw_iconst (v := nI 0) (pc := 2) dX0_chain_2 rfl ?_
  refine xw_aload_n (pc := 3) dX0_chain_3 0 rfl ?_
  refine xw_iload_n (pc := 4) dX0_chain_4 1 rfl ?_
  refine xw_iload_n (pc := 5) dX0_chain_5 2 rfl ?_
  refine xw_iload_n (pc := 6) dX0_chain_6 3 rfl ?_
  refine xw_iload (pc := 7) dX0_chain_7 4 rfl ?_
  refine xw_call (pc := 9) (xr_V (as := [_, _, _, _]) ok_X1_chain rfl (by decide) q1554 q1555 q1556 (by rw [hx]; rfl) (by rw [hx]; rfl) dX0_chain_9 rfl rfl (Nat.le_of_ble_eq_true rfl)) (h) ?_
  intro rs g1 hc1 hm1
  obtain ⟨q, rfl, q1, q2, q3⟩ := hc1
  have hp : ∀ z ∈ [((0 : Nat), (14 : Nat), (17 : Nat), (13 : Nat))], xNot "PolicyNotationLaw" 9 (xcn (xtag g1 q)) z := by
    intro z hz
    rw [q1]
    have hz2 : z = (0, 14, 17, 13) := by simpa using hz
    subst hz2
    exact Or.inr ⟨by decide, _, q1032, by decide +kernel⟩
  refine xx_catch [(0, 14, 17, 13)] (0, 14, 21, 21) [(0, 14, 25, 56)] rfl hp (cvE (by decide) (by decide)) (by decide) q1175 (by rw [q1]; exact q175) (by rw [q1]; decide) (by rw [q1]; decide) (by rw [q2]; decide) ?_
  refine xw_astore (l' := [(6, _), (0, _), (1, _), (2, _), (3, _), (4, _), (5, _)]) (pc := 21) dX0_chain_21 (by decide) rfl ?_
  refine xw_iconst (v := nI 2) (pc := 23) dX0_chain_23 rfl ?_
  refine xw_iret (pc := 24) .int dX0_chain_24 rfl ?_ 
  exact ⟨rfl, q3⟩

theorem SP_X0_chain_25 {d : Nat} {g : xG} {x out : Nat} {p0 p1 p2 p3 : Int32} {E : xG → Prop} (hx : xtag g x = 1) (h : XM M_X1_chain (d + 90) [.ref x, .int p0, .int p1, .int p2, .int p3] g (xErr 25 E)) : XM M_X0_chain (d + 91) [.ref x, .int p0, .int p1, .int p2, .int p3, .ref out] g (xVal (.int (nI 3)) E) := by
  refine xm_of (by decide +kernel) (Nat.le_of_ble_eq_true rfl) ?_
  show XW _ _ 0 [(0, _), (1, _), (2, _), (3, _), (4, _), (5, _)] [] _ _
  refine xw_aload (pc := 0) dX0_chain_0 5 rfl ?_
  refine xw_iconst (v := nI 0) (pc := 2) dX0_chain_2 rfl ?_
  refine xw_aload_n (pc := 3) dX0_chain_3 0 rfl ?_
  refine xw_iload_n (pc := 4) dX0_chain_4 1 rfl ?_
  refine xw_iload_n (pc := 5) dX0_chain_5 2 rfl ?_
  refine xw_iload_n (pc := 6) dX0_chain_6 3 rfl ?_
  refine xw_iload (pc := 7) dX0_chain_7 4 rfl ?_
  refine xw_call (pc := 9) (xr_V (as := [_, _, _, _]) ok_X1_chain rfl (by decide) q1554 q1555 q1556 (by rw [hx]; rfl) (by rw [hx]; rfl) dX0_chain_9 rfl rfl (Nat.le_of_ble_eq_true rfl)) (h) ?_
  intro rs g1 hc1 hm1
  obtain ⟨q, rfl, q1, q2, q3⟩ := hc1
  have hp : ∀ z ∈ [((0 : Nat), (14 : Nat), (17 : Nat), (13 : Nat)), ((0 : Nat), (14 : Nat), (21 : Nat), (21 : Nat))], xNot "PolicyNotationLaw" 9 (xcn (xtag g1 q)) z := by
    intro z hz
    rw [q1]
    have hz2 : z = (0, 14, 17, 13) ∨ z = (0, 14, 21, 21) := by simpa using hz
    rcases hz2 with rfl | rfl
    · exact Or.inr ⟨by decide, _, q1032, by decide +kernel⟩
    · exact Or.inr ⟨by decide, _, q1175, by decide +kernel⟩
  refine xx_catch [(0, 14, 17, 13), (0, 14, 21, 21)] (0, 14, 25, 56) [] rfl hp (cvE (by decide) (by decide)) (by decide) q1486 (by rw [q1]; exact q1159) (by rw [q1]; decide) (by rw [q1]; decide) (by rw [q2]; decide) ?_
  refine xw_astore (l' := [(6, _), (0, _), (1, _), (2, _), (3, _), (4, _), (5, _)]) (pc := 25) dX0_chain_25 (by decide) rfl ?_
  refine xw_iconst (v := nI 3) (pc := 27) dX0_chain_27 rfl ?_
  refine xw_iret (pc := 28) .int dX0_chain_28 rfl ?_ 
  exact ⟨rfl, q3⟩

theorem SP_X0_rival_ok {d : Nat} {g : xG} {x out : Nat} {p0 p1 p2 p3 : Int32} {E : xG → Prop} (hx : xtag g x = 1) (hE : ∀ g', E g' → xtag g' out = 106 ∧ xown g' out = 4 ∧ xlen g' out = 1) {v : Int32} (h : XM M_X1_rival (d + 90) [.ref x, .int p0, .int p1, .int p2, .int p3] g (xVal (.int v) E)) : XM M_X0_rival (d + 91) [.ref x, .int p0, .int p1, .int p2, .int p3, .ref out] g (xVal (.int (nI 0)) (fun g' => ∃ g1, E g1 ∧ g' = xsetW g1 out 0 (v.toInt64.toUInt64))) := by
  refine xm_of (by decide +kernel) (Nat.le_of_ble_eq_true rfl) ?_
  show XW _ _ 0 [(0, _), (1, _), (2, _), (3, _), (4, _), (5, _)] [] _ _
  refine xw_aload (pc := 0) dX0_rival_0 5 rfl ?_
  refine xw_iconst (v := nI 0) (pc := 2) dX0_rival_2 rfl ?_
  refine xw_aload_n (pc := 3) dX0_rival_3 0 rfl ?_
  refine xw_iload_n (pc := 4) dX0_rival_4 1 rfl ?_
  refine xw_iload_n (pc := 5) dX0_rival_5 2 rfl ?_
  refine xw_iload_n (pc := 6) dX0_rival_6 3 rfl ?_
  refine xw_iload (pc := 7) dX0_rival_7 4 rfl ?_
  refine xw_callF (pc := 9) (xr_V (as := [_, _, _, _]) ok_X1_rival rfl (by decide) q1566 q1567 q1568 (by rw [hx]; rfl) (by rw [hx]; rfl) dX0_rival_9 rfl rfl (Nat.le_of_ble_eq_true rfl)) (h) ?_
  intro g1 hc1 hm1
  obtain ⟨t1, t2, t3⟩ := hE g1 hc1
  have t2n : xown g1 out ≠ 0 := by rw [t2]; decide
  refine xw_i2l (pc := 12) dX0_rival_12 ?_
  refine xw_last (k := 0) (pc := 13) dX0_rival_13 (by simp [-List.getD_eq_getElem?_getD, xE_setI, xsz_setI, xsl_setI, xtag_setI, xown_setI, xlen_setI, xE_setR, xsz_setR, xsl_setR, xtag_setR, xown_setR, xlen_setR, xE_setW, xsz_setW, xsl_setW, xtag_setW, xown_setW, xlen_setW, xi_setR, xi_setW, xr_setI, xr_setW, xww_setI, xww_setR, xi_setI, xr_setR, xww_setW, xE_new, xsz_new, xsl_new, hx, t1, t3, t2n]) (by first | assumption | (simp [-List.getD_eq_getElem?_getD, xE_setI, xsz_setI, xsl_setI, xtag_setI, xown_setI, xlen_setI, xE_setR, xsz_setR, xsl_setR, xtag_setR, xown_setR, xlen_setR, xE_setW, xsz_setW, xsl_setW, xtag_setW, xown_setW, xlen_setW, xi_setR, xi_setW, xr_setI, xr_setW, xww_setI, xww_setR, xi_setI, xr_setR, xww_setW, xE_new, xsz_new, xsl_new, hx, t1, t3, t2n]; done) | (simp [-List.getD_eq_getElem?_getD, xE_setI, xsz_setI, xsl_setI, xtag_setI, xown_setI, xlen_setI, xE_setR, xsz_setR, xsl_setR, xtag_setR, xown_setR, xlen_setR, xE_setW, xsz_setW, xsl_setW, xtag_setW, xown_setW, xlen_setW, xi_setR, xi_setW, xr_setI, xr_setW, xww_setI, xww_setR, xi_setI, xr_setR, xww_setW, xE_new, xsz_new, xsl_new, hx, t1, t3, t2n]; assumption)) rfl (by rw [t3]; decide) ?_
  refine xw_goto (pc := 14) 29 dX0_rival_14 rfl ?_
  refine xw_iconst (v := nI 0) (pc := 29) dX0_rival_29 rfl ?_
  refine xw_iret (pc := 30) .int dX0_rival_30 rfl ?_ 
  exact ⟨rfl, g1, hc1, rfl⟩

theorem SP_X0_rival_23 {d : Nat} {g : xG} {x out : Nat} {p0 p1 p2 p3 : Int32} {E : xG → Prop} (hx : xtag g x = 1) (h : XM M_X1_rival (d + 90) [.ref x, .int p0, .int p1, .int p2, .int p3] g (xErr 23 E)) : XM M_X0_rival (d + 91) [.ref x, .int p0, .int p1, .int p2, .int p3, .ref out] g (xVal (.int (nI 1)) E) := by
  refine xm_of (by decide +kernel) (Nat.le_of_ble_eq_true rfl) ?_
  show XW _ _ 0 [(0, _), (1, _), (2, _), (3, _), (4, _), (5, _)] [] _ _
  refine xw_aload (pc := 0) dX0_rival_0 5 rfl ?_
  refine xw_iconst (v := nI 0) (pc := 2) dX0_rival_2 rfl ?_
  refine xw_aload_n (pc := 3) dX0_rival_3 0 rfl ?_
  refine xw_iload_n (pc := 4) dX0_rival_4 1 rfl ?_
  refine xw_iload_n (pc := 5) dX0_rival_5 2 rfl ?_
  refine xw_iload_n (pc := 6) dX0_rival_6 3 rfl ?_
  refine xw_iload (pc := 7) dX0_rival_7 4 rfl ?_
  refine xw_call (pc := 9) (xr_V (as := [_, _, _, _]) ok_X1_rival rfl (by decide) q1566 q1567 q1568 (by rw [hx]; rfl) (by rw [hx]; rfl) dX0_rival_9 rfl rfl (Nat.le_of_ble_eq_true rfl)) (h) ?_
  intro rs g1 hc1 hm1
  obtain ⟨q, rfl, q1, q2, q3⟩ := hc1
  refine xx_catch [] (0, 14, 17, 13) [(0, 14, 21, 21), (0, 14, 25, 56)] rfl (fun z hz => by cases hz) (cvE (by decide) (by decide)) (by decide) q1032 (by rw [q1]; exact q1070) (by rw [q1]; decide) (by rw [q1]; decide) (by rw [q2]; decide) ?_
  refine xw_astore (l' := [(6, _), (0, _), (1, _), (2, _), (3, _), (4, _), (5, _)]) (pc := 17) dX0_rival_17 (by decide) rfl ?_
  refine xw_iconst (v := nI 1) (pc := 19) dX0_rival_19 rfl ?_
  refine xw_iret (pc := 20) .int dX0_rival_20 rfl ?_ 
  exact ⟨rfl, q3⟩

theorem SP_X0_rival_22 {d : Nat} {g : xG} {x out : Nat} {p0 p1 p2 p3 : Int32} {E : xG → Prop} (hx : xtag g x = 1) (h : XM M_X1_rival (d + 90) [.ref x, .int p0, .int p1, .int p2, .int p3] g (xErr 22 E)) : XM M_X0_rival (d + 91) [.ref x, .int p0, .int p1, .int p2, .int p3, .ref out] g (xVal (.int (nI 2)) E) := by
  refine xm_of (by decide +kernel) (Nat.le_of_ble_eq_true rfl) ?_
  show XW _ _ 0 [(0, _), (1, _), (2, _), (3, _), (4, _), (5, _)] [] _ _
  refine xw_aload (pc := 0) dX0_rival_0 5 rfl ?_
  refine xw_iconst (v := nI 0) (pc := 2) dX0_rival_2 rfl ?_
  refine xw_aload_n (pc := 3) dX0_rival_3 0 rfl ?_
  refine xw_iload_n (pc := 4) dX0_rival_4 1 rfl ?_
  refine xw_iload_n (pc := 5) dX0_rival_5 2 rfl ?_
  refine xw_iload_n (pc := 6) dX0_rival_6 3 rfl ?_
  refine xw_iload (pc := 7) dX0_rival_7 4 rfl ?_
  refine xw_call (pc := 9) (xr_V (as := [_, _, _, _]) ok_X1_rival rfl (by decide) q1566 q1567 q1568 (by rw [hx]; rfl) (by rw [hx]; rfl) dX0_rival_9 rfl rfl (Nat.le_of_ble_eq_true rfl)) (h) ?_
  intro rs g1 hc1 hm1
  obtain ⟨q, rfl, q1, q2, q3⟩ := hc1
  have hp : ∀ z ∈ [((0 : Nat), (14 : Nat), (17 : Nat), (13 : Nat))], xNot "PolicyNotationLaw" 9 (xcn (xtag g1 q)) z := by
    intro z hz
    rw [q1]
    have hz2 : z = (0, 14, 17, 13) := by simpa using hz
    subst hz2
    exact Or.inr ⟨by decide, _, q1032, by decide +kernel⟩
  refine xx_catch [(0, 14, 17, 13)] (0, 14, 21, 21) [(0, 14, 25, 56)] rfl hp (cvE (by decide) (by decide)) (by decide) q1175 (by rw [q1]; exact q175) (by rw [q1]; decide) (by rw [q1]; decide) (by rw [q2]; decide) ?_
  refine xw_astore (l' := [(6, _), (0, _), (1, _), (2, _), (3, _), (4, _), (5, _)]) (pc := 21) dX0_rival_21 (by decide) rfl ?_
  refine xw_iconst (v := nI 2) (pc := 23) dX0_rival_23 rfl ?_
  refine xw_iret (pc := 24) .int dX0_rival_24 rfl ?_ 
  exact ⟨rfl, q3⟩

theorem SP_X0_rival_25 {d : Nat} {g : xG} {x out : Nat} {p0 p1 p2 p3 : Int32} {E : xG → Prop} (hx : xtag g x = 1) (h : XM M_X1_rival (d + 90) [.ref x, .int p0, .int p1, .int p2, .int p3] g (xErr 25 E)) : XM M_X0_rival (d + 91) [.ref x, .int p0, .int p1, .int p2, .int p3, .ref out] g (xVal (.int (nI 3)) E) := by
  refine xm_of (by decide +kernel) (Nat.le_of_ble_eq_true rfl) ?_
  show XW _ _ 0 [(0, _), (1, _), (2, _), (3, _), (4, _), (5, _)] [] _ _
  refine xw_aload (pc := 0) dX0_rival_0 5 rfl ?_
  refine xw_iconst (v := nI 0) (pc := 2) dX0_rival_2 rfl ?_
  refine xw_aload_n (pc := 3) dX0_rival_3 0 rfl ?_
  refine xw_iload_n (pc := 4) dX0_rival_4 1 rfl ?_
  refine xw_iload_n (pc := 5) dX0_rival_5 2 rfl ?_
  refine xw_iload_n (pc := 6) dX0_rival_6 3 rfl ?_
  refine xw_iload (pc := 7) dX0_rival_7 4 rfl ?_
  refine xw_call (pc := 9) (xr_V (as := [_, _, _, _]) ok_X1_rival rfl (by decide) q1566 q1567 q1568 (by rw [hx]; rfl) (by rw [hx]; rfl) dX0_rival_9 rfl rfl (Nat.le_of_ble_eq_true rfl)) (h) ?_
  intro rs g1 hc1 hm1
  obtain ⟨q, rfl, q1, q2, q3⟩ := hc1
  have hp : ∀ z ∈ [((0 : Nat), (14 : Nat), (17 : Nat), (13 : Nat)), ((0 : Nat), (14 : Nat), (21 : Nat), (21 : Nat))], xNot "PolicyNotationLaw" 9 (xcn (xtag g1 q)) z := by
    intro z hz
    rw [q1]
    have hz2 : z = (0, 14, 17, 13) ∨ z = (0, 14, 21, 21) := by simpa using hz
    rcases hz2 with rfl | rfl
    · exact Or.inr ⟨by decide, _, q1032, by decide +kernel⟩
    · exact Or.inr ⟨by decide, _, q1175, by decide +kernel⟩
  refine xx_catch [(0, 14, 17, 13), (0, 14, 21, 21)] (0, 14, 25, 56) [] rfl hp (cvE (by decide) (by decide)) (by decide) q1486 (by rw [q1]; exact q1159) (by rw [q1]; decide) (by rw [q1]; decide) (by rw [q2]; decide) ?_
  refine xw_astore (l' := [(6, _), (0, _), (1, _), (2, _), (3, _), (4, _), (5, _)]) (pc := 25) dX0_rival_25 (by decide) rfl ?_
  refine xw_iconst (v := nI 3) (pc := 27) dX0_rival_27 rfl ?_
  refine xw_iret (pc := 28) .int dX0_rival_28 rfl ?_ 
  exact ⟨rfl, q3⟩

theorem SP_X0_nextChange_ok {d : Nat} {g : xG} {x out : Nat} {p0 p1 p2 : Int32} {E : xG → Prop} (hx : xtag g x = 1) (hE : ∀ g', E g' → xtag g' out = 106 ∧ xown g' out = 4 ∧ xlen g' out = 1) {v : Int32} (h : XM M_X1_nextChange (d + 90) [.ref x, .int p0, .int p1, .int p2] g (xVal (.int v) E)) : XM M_X0_nextChange (d + 91) [.ref x, .int p0, .int p1, .int p2, .ref out] g (xVal (.int (nI 0)) (fun g' => ∃ g1, E g1 ∧ g' = xsetW g1 out 0 (v.toInt64.toUInt64))) := by
  refine xm_of (by decide +kernel) (Nat.le_of_ble_eq_true rfl) ?_
  show XW _ _ 0 [(0, _), (1, _), (2, _), (3, _), (4, _)] [] _ _
  refine xw_aload (pc := 0) dX0_nextChange_0 4 rfl ?_
  refine xw_iconst (v := nI 0) (pc := 2) dX0_nextChange_2 rfl ?_
  refine xw_aload_n (pc := 3) dX0_nextChange_3 0 rfl ?_
  refine xw_iload_n (pc := 4) dX0_nextChange_4 1 rfl ?_
  refine xw_iload_n (pc := 5) dX0_nextChange_5 2 rfl ?_
  refine xw_iload_n (pc := 6) dX0_nextChange_6 3 rfl ?_
  refine xw_callF (pc := 7) (xr_V (as := [_, _, _]) ok_X1_nextChange rfl (by decide) q1588 q1589 q1590 (by rw [hx]; rfl) (by rw [hx]; rfl) dX0_nextChange_7 rfl rfl (Nat.le_of_ble_eq_true rfl)) (h) ?_
  intro g1 hc1 hm1
  obtain ⟨t1, t2, t3⟩ := hE g1 hc1
  have t2n : xown g1 out ≠ 0 := by rw [t2]; decide
  refine xw_i2l (pc := 10) dX0_nextChange_10 ?_
  refine xw_last (k := 0) (pc := 11) dX0_nextChange_11 (by simp [-List.getD_eq_getElem?_getD, xE_setI, xsz_setI, xsl_setI, xtag_setI, xown_setI, xlen_setI, xE_setR, xsz_setR, xsl_setR, xtag_setR, xown_setR, xlen_setR, xE_setW, xsz_setW, xsl_setW, xtag_setW, xown_setW, xlen_setW, xi_setR, xi_setW, xr_setI, xr_setW, xww_setI, xww_setR, xi_setI, xr_setR, xww_setW, xE_new, xsz_new, xsl_new, hx, t1, t3, t2n]) (by first | assumption | (simp [-List.getD_eq_getElem?_getD, xE_setI, xsz_setI, xsl_setI, xtag_setI, xown_setI, xlen_setI, xE_setR, xsz_setR, xsl_setR, xtag_setR, xown_setR, xlen_setR, xE_setW, xsz_setW, xsl_setW, xtag_setW, xown_setW, xlen_setW, xi_setR, xi_setW, xr_setI, xr_setW, xww_setI, xww_setR, xi_setI, xr_setR, xww_setW, xE_new, xsz_new, xsl_new, hx, t1, t3, t2n]; done) | (simp [-List.getD_eq_getElem?_getD, xE_setI, xsz_setI, xsl_setI, xtag_setI, xown_setI, xlen_setI, xE_setR, xsz_setR, xsl_setR, xtag_setR, xown_setR, xlen_setR, xE_setW, xsz_setW, xsl_setW, xtag_setW, xown_setW, xlen_setW, xi_setR, xi_setW, xr_setI, xr_setW, xww_setI, xww_setR, xi_setI, xr_setR, xww_setW, xE_new, xsz_new, xsl_new, hx, t1, t3, t2n]; assumption)) rfl (by rw [t3]; decide) ?_
  refine xw_goto (pc := 12) 27 dX0_nextChange_12 rfl ?_
  refine xw_iconst (v := nI 0) (pc := 27) dX0_nextChange_27 rfl ?_
  refine xw_iret (pc := 28) .int dX0_nextChange_28 rfl ?_ 
  exact ⟨rfl, g1, hc1, rfl⟩

theorem SP_X0_nextChange_23 {d : Nat} {g : xG} {x out : Nat} {p0 p1 p2 : Int32} {E : xG → Prop} (hx : xtag g x = 1) (h : XM M_X1_nextChange (d + 90) [.ref x, .int p0, .int p1, .int p2] g (xErr 23 E)) : XM M_X0_nextChange (d + 91) [.ref x, .int p0, .int p1, .int p2, .ref out] g (xVal (.int (nI 1)) E) := by
  refine xm_of (by decide +kernel) (Nat.le_of_ble_eq_true rfl) ?_
  show XW _ _ 0 [(0, _), (1, _), (2, _), (3, _), (4, _)] [] _ _
  refine xw_aload (pc := 0) dX0_nextChange_0 4 rfl ?_
  refine xw_iconst (v := nI 0) (pc := 2) dX0_nextChange_2 rfl ?_
  refine xw_aload_n (pc := 3) dX0_nextChange_3 0 rfl ?_
  refine xw_iload_n (pc := 4) dX0_nextChange_4 1 rfl ?_
  refine xw_iload_n (pc := 5) dX0_nextChange_5 2 rfl ?_
  refine xw_iload_n (pc := 6) dX0_nextChange_6 3 rfl ?_
  refine xw_call (pc := 7) (xr_V (as := [_, _, _]) ok_X1_nextChange rfl (by decide) q1588 q1589 q1590 (by rw [hx]; rfl) (by rw [hx]; rfl) dX0_nextChange_7 rfl rfl (Nat.le_of_ble_eq_true rfl)) (h) ?_
  intro rs g1 hc1 hm1
  obtain ⟨q, rfl, q1, q2, q3⟩ := hc1
  refine xx_catch [] (0, 12, 15, 13) [(0, 12, 19, 21), (0, 12, 23, 56)] rfl (fun z hz => by cases hz) (cvE (by decide) (by decide)) (by decide) q1032 (by rw [q1]; exact q1070) (by rw [q1]; decide) (by rw [q1]; decide) (by rw [q2]; decide) ?_
  refine xw_astore (l' := [(5, _), (0, _), (1, _), (2, _), (3, _), (4, _)]) (pc := 15) dX0_nextChange_15 (by decide) rfl ?_
  refine xw_iconst (v := nI 1) (pc := 17) dX0_nextChange_17 rfl ?_
  refine xw_iret (pc := 18) .int dX0_nextChange_18 rfl ?_ 
  exact ⟨rfl, q3⟩

theorem SP_X0_nextChange_22 {d : Nat} {g : xG} {x out : Nat} {p0 p1 p2 : Int32} {E : xG → Prop} (hx : xtag g x = 1) (h : XM M_X1_nextChange (d + 90) [.ref x, .int p0, .int p1, .int p2] g (xErr 22 E)) : XM M_X0_nextChange (d + 91) [.ref x, .int p0, .int p1, .int p2, .ref out] g (xVal (.int (nI 2)) E) := by
  refine xm_of (by decide +kernel) (Nat.le_of_ble_eq_true rfl) ?_
  show XW _ _ 0 [(0, _), (1, _), (2, _), (3, _), (4, _)] [] _ _
  refine xw_aload (pc := 0) dX0_nextChange_0 4 rfl ?_
  refine xw_iconst (v := nI 0) (pc := 2) dX0_nextChange_2 rfl ?_
  refine xw_aload_n (pc := 3) dX0_nextChange_3 0 rfl ?_
  refine xw_iload_n (pc := 4) dX0_nextChange_4 1 rfl ?_
  refine xw_iload_n (pc := 5) dX0_nextChange_5 2 rfl ?_
  refine xw_iload_n (pc := 6) dX0_nextChange_6 3 rfl ?_
  refine xw_call (pc := 7) (xr_V (as := [_, _, _]) ok_X1_nextChange rfl (by decide) q1588 q1589 q1590 (by rw [hx]; rfl) (by rw [hx]; rfl) dX0_nextChange_7 rfl rfl (Nat.le_of_ble_eq_true rfl)) (h) ?_
  intro rs g1 hc1 hm1
  obtain ⟨q, rfl, q1, q2, q3⟩ := hc1
  have hp : ∀ z ∈ [((0 : Nat), (12 : Nat), (15 : Nat), (13 : Nat))], xNot "PolicyNotationLaw" 7 (xcn (xtag g1 q)) z := by
    intro z hz
    rw [q1]
    have hz2 : z = (0, 12, 15, 13) := by simpa using hz
    subst hz2
    exact Or.inr ⟨by decide, _, q1032, by decide +kernel⟩
  refine xx_catch [(0, 12, 15, 13)] (0, 12, 19, 21) [(0, 12, 23, 56)] rfl hp (cvE (by decide) (by decide)) (by decide) q1175 (by rw [q1]; exact q175) (by rw [q1]; decide) (by rw [q1]; decide) (by rw [q2]; decide) ?_
  refine xw_astore (l' := [(5, _), (0, _), (1, _), (2, _), (3, _), (4, _)]) (pc := 19) dX0_nextChange_19 (by decide) rfl ?_
  refine xw_iconst (v := nI 2) (pc := 21) dX0_nextChange_21 rfl ?_
  refine xw_iret (pc := 22) .int dX0_nextChange_22 rfl ?_ 
  exact ⟨rfl, q3⟩

theorem SP_X0_nextChange_25 {d : Nat} {g : xG} {x out : Nat} {p0 p1 p2 : Int32} {E : xG → Prop} (hx : xtag g x = 1) (h : XM M_X1_nextChange (d + 90) [.ref x, .int p0, .int p1, .int p2] g (xErr 25 E)) : XM M_X0_nextChange (d + 91) [.ref x, .int p0, .int p1, .int p2, .ref out] g (xVal (.int (nI 3)) E) := by
  refine xm_of (by decide +kernel) (Nat.le_of_ble_eq_true rfl) ?_
  show XW _ _ 0 [(0, _), (1, _), (2, _), (3, _), (4, _)] [] _ _
  refine xw_aload (pc := 0) dX0_nextChange_0 4 rfl ?_
  refine xw_iconst (v := nI 0) (pc := 2) dX0_nextChange_2 rfl ?_
  refine xw_aload_n (pc := 3) dX0_nextChange_3 0 rfl ?_
  refine xw_iload_n (pc := 4) dX0_nextChange_4 1 rfl ?_
  refine xw_iload_n (pc := 5) dX0_nextChange_5 2 rfl ?_
  refine xw_iload_n (pc := 6) dX0_nextChange_6 3 rfl ?_
  refine xw_call (pc := 7) (xr_V (as := [_, _, _]) ok_X1_nextChange rfl (by decide) q1588 q1589 q1590 (by rw [hx]; rfl) (by rw [hx]; rfl) dX0_nextChange_7 rfl rfl (Nat.le_of_ble_eq_true rfl)) (h) ?_
  intro rs g1 hc1 hm1
  obtain ⟨q, rfl, q1, q2, q3⟩ := hc1
  have hp : ∀ z ∈ [((0 : Nat), (12 : Nat), (15 : Nat), (13 : Nat)), ((0 : Nat), (12 : Nat), (19 : Nat), (21 : Nat))], xNot "PolicyNotationLaw" 7 (xcn (xtag g1 q)) z := by
    intro z hz
    rw [q1]
    have hz2 : z = (0, 12, 15, 13) ∨ z = (0, 12, 19, 21) := by simpa using hz
    rcases hz2 with rfl | rfl
    · exact Or.inr ⟨by decide, _, q1032, by decide +kernel⟩
    · exact Or.inr ⟨by decide, _, q1175, by decide +kernel⟩
  refine xx_catch [(0, 12, 15, 13), (0, 12, 19, 21)] (0, 12, 23, 56) [] rfl hp (cvE (by decide) (by decide)) (by decide) q1486 (by rw [q1]; exact q1159) (by rw [q1]; decide) (by rw [q1]; decide) (by rw [q2]; decide) ?_
  refine xw_astore (l' := [(5, _), (0, _), (1, _), (2, _), (3, _), (4, _)]) (pc := 23) dX0_nextChange_23 (by decide) rfl ?_
  refine xw_iconst (v := nI 3) (pc := 25) dX0_nextChange_25 rfl ?_
  refine xw_iret (pc := 26) .int dX0_nextChange_26 rfl ?_ 
  exact ⟨rfl, q3⟩

theorem SP_X0_days_ok {d : Nat} {g : xG} {x out : Nat} {p0 p1 p2 : Int32} {E : xG → Prop} (hx : xtag g x = 1) (hE : ∀ g', E g' → xtag g' out = 106 ∧ xown g' out = 4 ∧ xlen g' out = 1) {v : Int32} (h : XM M_X1_days (d + 90) [.ref x, .int p0, .int p1, .int p2] g (xVal (.int v) E)) : XM M_X0_days (d + 91) [.ref x, .int p0, .int p1, .int p2, .ref out] g (xVal (.int (nI 0)) (fun g' => ∃ g1, E g1 ∧ g' = xsetW g1 out 0 (v.toInt64.toUInt64))) := by
  refine xm_of (by decide +kernel) (Nat.le_of_ble_eq_true rfl) ?_
  show XW _ _ 0 [(0, _), (1, _), (2, _), (3, _), (4, _)] [] _ _
  refine xw_aload (pc := 0) dX0_days_0 4 rfl ?_
  refine xw_iconst (v := nI 0) (pc := 2) dX0_days_2 rfl ?_
  refine xw_aload_n (pc := 3) dX0_days_3 0 rfl ?_
  refine xw_iload_n (pc := 4) dX0_days_4 1 rfl ?_
  refine xw_iload_n (pc := 5) dX0_days_5 2 rfl ?_
  refine xw_iload_n (pc := 6) dX0_days_6 3 rfl ?_
  refine xw_callF (pc := 7) (xr_V (as := [_, _, _]) ok_X1_days rfl (by decide) q1599 q1600 q1601 (by rw [hx]; rfl) (by rw [hx]; rfl) dX0_days_7 rfl rfl (Nat.le_of_ble_eq_true rfl)) (h) ?_
  intro g1 hc1 hm1
  obtain ⟨t1, t2, t3⟩ := hE g1 hc1
  have t2n : xown g1 out ≠ 0 := by rw [t2]; decide
  refine xw_i2l (pc := 10) dX0_days_10 ?_
  refine xw_last (k := 0) (pc := 11) dX0_days_11 (by simp [-List.getD_eq_getElem?_getD, xE_setI, xsz_setI, xsl_setI, xtag_setI, xown_setI, xlen_setI, xE_setR, xsz_setR, xsl_setR, xtag_setR, xown_setR, xlen_setR, xE_setW, xsz_setW, xsl_setW, xtag_setW, xown_setW, xlen_setW, xi_setR, xi_setW, xr_setI, xr_setW, xww_setI, xww_setR, xi_setI, xr_setR, xww_setW, xE_new, xsz_new, xsl_new, hx, t1, t3, t2n]) (by first | assumption | (simp [-List.getD_eq_getElem?_getD, xE_setI, xsz_setI, xsl_setI, xtag_setI, xown_setI, xlen_setI, xE_setR, xsz_setR, xsl_setR, xtag_setR, xown_setR, xlen_setR, xE_setW, xsz_setW, xsl_setW, xtag_setW, xown_setW, xlen_setW, xi_setR, xi_setW, xr_setI, xr_setW, xww_setI, xww_setR, xi_setI, xr_setR, xww_setW, xE_new, xsz_new, xsl_new, hx, t1, t3, t2n]; done) | (simp [-List.getD_eq_getElem?_getD, xE_setI, xsz_setI, xsl_setI, xtag_setI, xown_setI, xlen_setI, xE_setR, xsz_setR, xsl_setR, xtag_setR, xown_setR, xlen_setR, xE_setW, xsz_setW, xsl_setW, xtag_setW, xown_setW, xlen_setW, xi_setR, xi_setW, xr_setI, xr_setW, xww_setI, xww_setR, xi_setI, xr_setR, xww_setW, xE_new, xsz_new, xsl_new, hx, t1, t3, t2n]; assumption)) rfl (by rw [t3]; decide) ?_
  refine xw_goto (pc := 12) 23 dX0_days_12 rfl ?_
  refine xw_iconst (v := nI 0) (pc := 23) dX0_days_23 rfl ?_
  refine xw_iret (pc := 24) .int dX0_days_24 rfl ?_ 
  exact ⟨rfl, g1, hc1, rfl⟩

theorem SP_X0_days_23 {d : Nat} {g : xG} {x out : Nat} {p0 p1 p2 : Int32} {E : xG → Prop} (hx : xtag g x = 1) (h : XM M_X1_days (d + 90) [.ref x, .int p0, .int p1, .int p2] g (xErr 23 E)) : XM M_X0_days (d + 91) [.ref x, .int p0, .int p1, .int p2, .ref out] g (xVal (.int (nI 1)) E) := by
  refine xm_of (by decide +kernel) (Nat.le_of_ble_eq_true rfl) ?_
  show XW _ _ 0 [(0, _), (1, _), (2, _), (3, _), (4, _)] [] _ _
  refine xw_aload (pc := 0) dX0_days_0 4 rfl ?_
  refine xw_iconst (v := nI 0) (pc := 2) dX0_days_2 rfl ?_
  refine xw_aload_n (pc := 3) dX0_days_3 0 rfl ?_
  refine xw_iload_n (pc := 4) dX0_days_4 1 rfl ?_
  refine xw_iload_n (pc := 5) dX0_days_5 2 rfl ?_
  refine xw_iload_n (pc := 6) dX0_days_6 3 rfl ?_
  refine xw_call (pc := 7) (xr_V (as := [_, _, _]) ok_X1_days rfl (by decide) q1599 q1600 q1601 (by rw [hx]; rfl) (by rw [hx]; rfl) dX0_days_7 rfl rfl (Nat.le_of_ble_eq_true rfl)) (h) ?_
  intro rs g1 hc1 hm1
  obtain ⟨q, rfl, q1, q2, q3⟩ := hc1
  refine xx_catch [] (0, 12, 15, 13) [(0, 12, 19, 21)] rfl (fun z hz => by cases hz) (cvE (by decide) (by decide)) (by decide) q1032 (by rw [q1]; exact q1070) (by rw [q1]; decide) (by rw [q1]; decide) (by rw [q2]; decide) ?_
  refine xw_astore (l' := [(5, _), (0, _), (1, _), (2, _), (3, _), (4, _)]) (pc := 15) dX0_days_15 (by decide) rfl ?_
  refine xw_iconst (v := nI 1) (pc := 17) dX0_days_17 rfl ?_
  refine xw_iret (pc := 18) .int dX0_days_18 rfl ?_ 
  exact ⟨rfl, q3⟩

theorem SP_X0_days_22 {d : Nat} {g : xG} {x out : Nat} {p0 p1 p2 : Int32} {E : xG → Prop} (hx : xtag g x = 1) (h : XM M_X1_days (d + 90) [.ref x, .int p0, .int p1, .int p2] g (xErr 22 E)) : XM M_X0_days (d + 91) [.ref x, .int p0, .int p1, .int p2, .ref out] g (xVal (.int (nI 2)) E) := by
  refine xm_of (by decide +kernel) (Nat.le_of_ble_eq_true rfl) ?_
  show XW _ _ 0 [(0, _), (1, _), (2, _), (3, _), (4, _)] [] _ _
  refine xw_aload (pc := 0) dX0_days_0 4 rfl ?_
  refine xw_iconst (v := nI 0) (pc := 2) dX0_days_2 rfl ?_
  refine xw_aload_n (pc := 3) dX0_days_3 0 rfl ?_
  refine xw_iload_n (pc := 4) dX0_days_4 1 rfl ?_
  refine xw_iload_n (pc := 5) dX0_days_5 2 rfl ?_
  refine xw_iload_n (pc := 6) dX0_days_6 3 rfl ?_
  refine xw_call (pc := 7) (xr_V (as := [_, _, _]) ok_X1_days rfl (by decide) q1599 q1600 q1601 (by rw [hx]; rfl) (by rw [hx]; rfl) dX0_days_7 rfl rfl (Nat.le_of_ble_eq_true rfl)) (h) ?_
  intro rs g1 hc1 hm1
  obtain ⟨q, rfl, q1, q2, q3⟩ := hc1
  have hp : ∀ z ∈ [((0 : Nat), (12 : Nat), (15 : Nat), (13 : Nat))], xNot "PolicyNotationLaw" 7 (xcn (xtag g1 q)) z := by
    intro z hz
    rw [q1]
    have hz2 : z = (0, 12, 15, 13) := by simpa using hz
    subst hz2
    exact Or.inr ⟨by decide, _, q1032, by decide +kernel⟩
  refine xx_catch [(0, 12, 15, 13)] (0, 12, 19, 21) [] rfl hp (cvE (by decide) (by decide)) (by decide) q1175 (by rw [q1]; exact q175) (by rw [q1]; decide) (by rw [q1]; decide) (by rw [q2]; decide) ?_
  refine xw_astore (l' := [(5, _), (0, _), (1, _), (2, _), (3, _), (4, _)]) (pc := 19) dX0_days_19 (by decide) rfl ?_
  refine xw_iconst (v := nI 2) (pc := 21) dX0_days_21 rfl ?_
  refine xw_iret (pc := 22) .int dX0_days_22 rfl ?_ 
  exact ⟨rfl, q3⟩

theorem SP_X0_burden_ok {d : Nat} {g : xG} {x out : Nat} {p0 p1 p2 : Int32} {E : xG → Prop} (hx : xtag g x = 1) (hE : ∀ g', E g' → xtag g' out = 107 ∧ xown g' out = 4 ∧ xlen g' out = 1) {v : UInt32} (hz : fZ v) (h : XM M_X1_burden (d + 90) [.ref x, .int p0, .int p1, .int p2] g (xVal (.float v) E)) : XM M_X0_burden (d + 91) [.ref x, .int p0, .int p1, .int p2, .ref out] g (xVal (.int (nI 0)) (fun g' => ∃ g1, E g1 ∧ g' = xsetW g1 out 0 (FP.f2d v))) := by
  refine xm_of (by decide +kernel) (Nat.le_of_ble_eq_true rfl) ?_
  show XW _ _ 0 [(0, _), (1, _), (2, _), (3, _), (4, _)] [] _ _
  refine xw_aload (pc := 0) dX0_burden_0 4 rfl ?_
  refine xw_iconst (v := nI 0) (pc := 2) dX0_burden_2 rfl ?_
  refine xw_aload_n (pc := 3) dX0_burden_3 0 rfl ?_
  refine xw_iload_n (pc := 4) dX0_burden_4 1 rfl ?_
  refine xw_iload_n (pc := 5) dX0_burden_5 2 rfl ?_
  refine xw_iload_n (pc := 6) dX0_burden_6 3 rfl ?_
  refine xw_callF (pc := 7) (xr_V (as := [_, _, _]) ok_X1_burden rfl (by decide) q1606 q1607 q1608 (by rw [hx]; rfl) (by rw [hx]; rfl) dX0_burden_7 rfl rfl (Nat.le_of_ble_eq_true rfl)) (h) ?_
  intro g1 hc1 hm1
  obtain ⟨t1, t2, t3⟩ := hE g1 hc1
  have t2n : xown g1 out ≠ 0 := by rw [t2]; decide
  refine xw_f2d (pc := 10) dX0_burden_10 (by exact (f2d_Z hz).n64) ?_
  refine xw_dast (k := 0) (pc := 11) dX0_burden_11 (by simp [-List.getD_eq_getElem?_getD, xE_setI, xsz_setI, xsl_setI, xtag_setI, xown_setI, xlen_setI, xE_setR, xsz_setR, xsl_setR, xtag_setR, xown_setR, xlen_setR, xE_setW, xsz_setW, xsl_setW, xtag_setW, xown_setW, xlen_setW, xi_setR, xi_setW, xr_setI, xr_setW, xww_setI, xww_setR, xi_setI, xr_setR, xww_setW, xE_new, xsz_new, xsl_new, hx, t1, t3, t2n]) (by first | assumption | (simp [-List.getD_eq_getElem?_getD, xE_setI, xsz_setI, xsl_setI, xtag_setI, xown_setI, xlen_setI, xE_setR, xsz_setR, xsl_setR, xtag_setR, xown_setR, xlen_setR, xE_setW, xsz_setW, xsl_setW, xtag_setW, xown_setW, xlen_setW, xi_setR, xi_setW, xr_setI, xr_setW, xww_setI, xww_setR, xi_setI, xr_setR, xww_setW, xE_new, xsz_new, xsl_new, hx, t1, t3, t2n]; done) | (simp [-List.getD_eq_getElem?_getD, xE_setI, xsz_setI, xsl_setI, xtag_setI, xown_setI, xlen_setI, xE_setR, xsz_setR, xsl_setR, xtag_setR, xown_setR, xlen_setR, xE_setW, xsz_setW, xsl_setW, xtag_setW, xown_setW, xlen_setW, xi_setR, xi_setW, xr_setI, xr_setW, xww_setI, xww_setR, xi_setI, xr_setR, xww_setW, xE_new, xsz_new, xsl_new, hx, t1, t3, t2n]; assumption)) rfl (by rw [t3]; decide) ?_
  refine xw_goto (pc := 12) 23 dX0_burden_12 rfl ?_
  refine xw_iconst (v := nI 0) (pc := 23) dX0_burden_23 rfl ?_
  refine xw_iret (pc := 24) .int dX0_burden_24 rfl ?_ 
  exact ⟨rfl, g1, hc1, rfl⟩

theorem SP_X0_burden_23 {d : Nat} {g : xG} {x out : Nat} {p0 p1 p2 : Int32} {E : xG → Prop} (hx : xtag g x = 1) (h : XM M_X1_burden (d + 90) [.ref x, .int p0, .int p1, .int p2] g (xErr 23 E)) : XM M_X0_burden (d + 91) [.ref x, .int p0, .int p1, .int p2, .ref out] g (xVal (.int (nI 1)) E) := by
  refine xm_of (by decide +kernel) (Nat.le_of_ble_eq_true rfl) ?_
  show XW _ _ 0 [(0, _), (1, _), (2, _), (3, _), (4, _)] [] _ _
  refine xw_aload (pc := 0) dX0_burden_0 4 rfl ?_
  refine xw_iconst (v := nI 0) (pc := 2) dX0_burden_2 rfl ?_
  refine xw_aload_n (pc := 3) dX0_burden_3 0 rfl ?_
  refine xw_iload_n (pc := 4) dX0_burden_4 1 rfl ?_
  refine xw_iload_n (pc := 5) dX0_burden_5 2 rfl ?_
  refine xw_iload_n (pc := 6) dX0_burden_6 3 rfl ?_
  refine xw_call (pc := 7) (xr_V (as := [_, _, _]) ok_X1_burden rfl (by decide) q1606 q1607 q1608 (by rw [hx]; rfl) (by rw [hx]; rfl) dX0_burden_7 rfl rfl (Nat.le_of_ble_eq_true rfl)) (h) ?_
  intro rs g1 hc1 hm1
  obtain ⟨q, rfl, q1, q2, q3⟩ := hc1
  refine xx_catch [] (0, 12, 15, 13) [(0, 12, 19, 21)] rfl (fun z hz => by cases hz) (cvE (by decide) (by decide)) (by decide) q1032 (by rw [q1]; exact q1070) (by rw [q1]; decide) (by rw [q1]; decide) (by rw [q2]; decide) ?_
  refine xw_astore (l' := [(5, _), (0, _), (1, _), (2, _), (3, _), (4, _)]) (pc := 15) dX0_burden_15 (by decide) rfl ?_
  refine xw_iconst (v := nI 1) (pc := 17) dX0_burden_17 rfl ?_
  refine xw_iret (pc := 18) .int dX0_burden_18 rfl ?_ 
  exact ⟨rfl, q3⟩

theorem SP_X0_burden_22 {d : Nat} {g : xG} {x out : Nat} {p0 p1 p2 : Int32} {E : xG → Prop} (hx : xtag g x = 1) (h : XM M_X1_burden (d + 90) [.ref x, .int p0, .int p1, .int p2] g (xErr 22 E)) : XM M_X0_burden (d + 91) [.ref x, .int p0, .int p1, .int p2, .ref out] g (xVal (.int (nI 2)) E) := by
  refine xm_of (by decide +kernel) (Nat.le_of_ble_eq_true rfl) ?_
  show XW _ _ 0 [(0, _), (1, _), (2, _), (3, _), (4, _)] [] _ _
  refine xw_aload (pc := 0) dX0_burden_0 4 rfl ?_
  refine xw_iconst (v := nI 0) (pc := 2) dX0_burden_2 rfl ?_
  refine xw_aload_n (pc := 3) dX0_burden_3 0 rfl ?_
  refine xw_iload_n (pc := 4) dX0_burden_4 1 rfl ?_
  refine xw_iload_n (pc := 5) dX0_burden_5 2 rfl ?_
  refine xw_iload_n (pc := 6) dX0_burden_6 3 rfl ?_
  refine xw_call (pc := 7) (xr_V (as := [_, _, _]) ok_X1_burden rfl (by decide) q1606 q1607 q1608 (by rw [hx]; rfl) (by rw [hx]; rfl) dX0_burden_7 rfl rfl (Nat.le_of_ble_eq_true rfl)) (h) ?_
  intro rs g1 hc1 hm1
  obtain ⟨q, rfl, q1, q2, q3⟩ := hc1
  have hp : ∀ z ∈ [((0 : Nat), (12 : Nat), (15 : Nat), (13 : Nat))], xNot "PolicyNotationLaw" 7 (xcn (xtag g1 q)) z := by
    intro z hz
    rw [q1]
    have hz2 : z = (0, 12, 15, 13) := by simpa using hz
    subst hz2
    exact Or.inr ⟨by decide, _, q1032, by decide +kernel⟩
  refine xx_catch [(0, 12, 15, 13)] (0, 12, 19, 21) [] rfl hp (cvE (by decide) (by decide)) (by decide) q1175 (by rw [q1]; exact q175) (by rw [q1]; decide) (by rw [q1]; decide) (by rw [q2]; decide) ?_
  refine xw_astore (l' := [(5, _), (0, _), (1, _), (2, _), (3, _), (4, _)]) (pc := 19) dX0_burden_19 (by decide) rfl ?_
  refine xw_iconst (v := nI 2) (pc := 21) dX0_burden_21 rfl ?_
  refine xw_iret (pc := 22) .int dX0_burden_22 rfl ?_ 
  exact ⟨rfl, q3⟩

theorem SP_X0_percent_ok {d : Nat} {g : xG} {x out : Nat} {p0 p1 p2 : Int32} {E : xG → Prop} (hx : xtag g x = 1) (hE : ∀ g', E g' → xtag g' out = 106 ∧ xown g' out = 4 ∧ xlen g' out = 1) {v : Int32} (h : XM M_X1_percent (d + 90) [.ref x, .int p0, .int p1, .int p2] g (xVal (.int v) E)) : XM M_X0_percent (d + 91) [.ref x, .int p0, .int p1, .int p2, .ref out] g (xVal (.int (nI 0)) (fun g' => ∃ g1, E g1 ∧ g' = xsetW g1 out 0 (v.toInt64.toUInt64))) := by
  refine xm_of (by decide +kernel) (Nat.le_of_ble_eq_true rfl) ?_
  show XW _ _ 0 [(0, _), (1, _), (2, _), (3, _), (4, _)] [] _ _
  refine xw_aload (pc := 0) dX0_percent_0 4 rfl ?_
  refine xw_iconst (v := nI 0) (pc := 2) dX0_percent_2 rfl ?_
  refine xw_aload_n (pc := 3) dX0_percent_3 0 rfl ?_
  refine xw_iload_n (pc := 4) dX0_percent_4 1 rfl ?_
  refine xw_iload_n (pc := 5) dX0_percent_5 2 rfl ?_
  refine xw_iload_n (pc := 6) dX0_percent_6 3 rfl ?_
  refine xw_callF (pc := 7) (xr_V (as := [_, _, _]) ok_X1_percent rfl (by decide) q1619 q1620 q1621 (by rw [hx]; rfl) (by rw [hx]; rfl) dX0_percent_7 rfl rfl (Nat.le_of_ble_eq_true rfl)) (h) ?_
  intro g1 hc1 hm1
  obtain ⟨t1, t2, t3⟩ := hE g1 hc1
  have t2n : xown g1 out ≠ 0 := by rw [t2]; decide
  refine xw_i2l (pc := 10) dX0_percent_10 ?_
  refine xw_last (k := 0) (pc := 11) dX0_percent_11 (by simp [-List.getD_eq_getElem?_getD, xE_setI, xsz_setI, xsl_setI, xtag_setI, xown_setI, xlen_setI, xE_setR, xsz_setR, xsl_setR, xtag_setR, xown_setR, xlen_setR, xE_setW, xsz_setW, xsl_setW, xtag_setW, xown_setW, xlen_setW, xi_setR, xi_setW, xr_setI, xr_setW, xww_setI, xww_setR, xi_setI, xr_setR, xww_setW, xE_new, xsz_new, xsl_new, hx, t1, t3, t2n]) (by first | assumption | (simp [-List.getD_eq_getElem?_getD, xE_setI, xsz_setI, xsl_setI, xtag_setI, xown_setI, xlen_setI, xE_setR, xsz_setR, xsl_setR, xtag_setR, xown_setR, xlen_setR, xE_setW, xsz_setW, xsl_setW, xtag_setW, xown_setW, xlen_setW, xi_setR, xi_setW, xr_setI, xr_setW, xww_setI, xww_setR, xi_setI, xr_setR, xww_setW, xE_new, xsz_new, xsl_new, hx, t1, t3, t2n]; done) | (simp [-List.getD_eq_getElem?_getD, xE_setI, xsz_setI, xsl_setI, xtag_setI, xown_setI, xlen_setI, xE_setR, xsz_setR, xsl_setR, xtag_setR, xown_setR, xlen_setR, xE_setW, xsz_setW, xsl_setW, xtag_setW, xown_setW, xlen_setW, xi_setR, xi_setW, xr_setI, xr_setW, xww_setI, xww_setR, xi_setI, xr_setR, xww_setW, xE_new, xsz_new, xsl_new, hx, t1, t3, t2n]; assumption)) rfl (by rw [t3]; decide) ?_
  refine xw_goto (pc := 12) 23 dX0_percent_12 rfl ?_
  refine xw_iconst (v := nI 0) (pc := 23) dX0_percent_23 rfl ?_
  refine xw_iret (pc := 24) .int dX0_percent_24 rfl ?_ 
  exact ⟨rfl, g1, hc1, rfl⟩

theorem SP_X0_percent_23 {d : Nat} {g : xG} {x out : Nat} {p0 p1 p2 : Int32} {E : xG → Prop} (hx : xtag g x = 1) (h : XM M_X1_percent (d + 90) [.ref x, .int p0, .int p1, .int p2] g (xErr 23 E)) : XM M_X0_percent (d + 91) [.ref x, .int p0, .int p1, .int p2, .ref out] g (xVal (.int (nI 1)) E) := by
  refine xm_of (by decide +kernel) (Nat.le_of_ble_eq_true rfl) ?_
  show XW _ _ 0 [(0, _), (1, _), (2, _), (3, _), (4, _)] [] _ _
  refine xw_aload (pc := 0) dX0_percent_0 4 rfl ?_
  refine xw_iconst (v := nI 0) (pc := 2) dX0_percent_2 rfl ?_
  refine xw_aload_n (pc := 3) dX0_percent_3 0 rfl ?_
  refine xw_iload_n (pc := 4) dX0_percent_4 1 rfl ?_
  refine xw_iload_n (pc := 5) dX0_percent_5 2 rfl ?_
  refine xw_iload_n (pc := 6) dX0_percent_6 3 rfl ?_
  refine xw_call (pc := 7) (xr_V (as := [_, _, _]) ok_X1_percent rfl (by decide) q1619 q1620 q1621 (by rw [hx]; rfl) (by rw [hx]; rfl) dX0_percent_7 rfl rfl (Nat.le_of_ble_eq_true rfl)) (h) ?_
  intro rs g1 hc1 hm1
  obtain ⟨q, rfl, q1, q2, q3⟩ := hc1
  refine xx_catch [] (0, 12, 15, 13) [(0, 12, 19, 21)] rfl (fun z hz => by cases hz) (cvE (by decide) (by decide)) (by decide) q1032 (by rw [q1]; exact q1070) (by rw [q1]; decide) (by rw [q1]; decide) (by rw [q2]; decide) ?_
  refine xw_astore (l' := [(5, _), (0, _), (1, _), (2, _), (3, _), (4, _)]) (pc := 15) dX0_percent_15 (by decide) rfl ?_
  refine xw_iconst (v := nI 1) (pc := 17) dX0_percent_17 rfl ?_
  refine xw_iret (pc := 18) .int dX0_percent_18 rfl ?_ 
  exact ⟨rfl, q3⟩

theorem SP_X0_percent_22 {d : Nat} {g : xG} {x out : Nat} {p0 p1 p2 : Int32} {E : xG → Prop} (hx : xtag g x = 1) (h : XM M_X1_percent (d + 90) [.ref x, .int p0, .int p1, .int p2] g (xErr 22 E)) : XM M_X0_percent (d + 91) [.ref x, .int p0, .int p1, .int p2, .ref out] g (xVal (.int (nI 2)) E) := by
  refine xm_of (by decide +kernel) (Nat.le_of_ble_eq_true rfl) ?_
  show XW _ _ 0 [(0, _), (1, _), (2, _), (3, _), (4, _)] [] _ _
  refine xw_aload (pc := 0) dX0_percent_0 4 rfl ?_
  refine xw_iconst (v := nI 0) (pc := 2) dX0_percent_2 rfl ?_
  refine xw_aload_n (pc := 3) dX0_percent_3 0 rfl ?_
  refine xw_iload_n (pc := 4) dX0_percent_4 1 rfl ?_
  refine xw_iload_n (pc := 5) dX0_percent_5 2 rfl ?_
  refine xw_iload_n (pc := 6) dX0_percent_6 3 rfl ?_
  refine xw_call (pc := 7) (xr_V (as := [_, _, _]) ok_X1_percent rfl (by decide) q1619 q1620 q1621 (by rw [hx]; rfl) (by rw [hx]; rfl) dX0_percent_7 rfl rfl (Nat.le_of_ble_eq_true rfl)) (h) ?_
  intro rs g1 hc1 hm1
  obtain ⟨q, rfl, q1, q2, q3⟩ := hc1
  have hp : ∀ z ∈ [((0 : Nat), (12 : Nat), (15 : Nat), (13 : Nat))], xNot "PolicyNotationLaw" 7 (xcn (xtag g1 q)) z := by
    intro z hz
    rw [q1]
    have hz2 : z = (0, 12, 15, 13) := by simpa using hz
    subst hz2
    exact Or.inr ⟨by decide, _, q1032, by decide +kernel⟩
  refine xx_catch [(0, 12, 15, 13)] (0, 12, 19, 21) [] rfl hp (cvE (by decide) (by decide)) (by decide) q1175 (by rw [q1]; exact q175) (by rw [q1]; decide) (by rw [q1]; decide) (by rw [q2]; decide) ?_
  refine xw_astore (l' := [(5, _), (0, _), (1, _), (2, _), (3, _), (4, _)]) (pc := 19) dX0_percent_19 (by decide) rfl ?_
  refine xw_iconst (v := nI 2) (pc := 21) dX0_percent_21 rfl ?_
  refine xw_iret (pc := 22) .int dX0_percent_22 rfl ?_ 
  exact ⟨rfl, q3⟩

theorem SP_X0_work_ok {d : Nat} {g : xG} {x out : Nat} {p0 p1 p2 p3 : Int32} {E : xG → Prop} (hx : xtag g x = 1) (hE : ∀ g', E g' → xtag g' out = 106 ∧ xown g' out = 4 ∧ xlen g' out = 1) {v : Int32} (h : XM M_X1_work (d + 90) [.ref x, .int p0, .int p1, .int p2, .int p3] g (xVal (.int v) E)) : XM M_X0_work (d + 91) [.ref x, .int p0, .int p1, .int p2, .int p3, .ref out] g (xVal (.int (nI 0)) (fun g' => ∃ g1, E g1 ∧ g' = xsetW g1 out 0 (v.toInt64.toUInt64))) := by
  refine xm_of (by decide +kernel) (Nat.le_of_ble_eq_true rfl) ?_
  show XW _ _ 0 [(0, _), (1, _), (2, _), (3, _), (4, _), (5, _)] [] _ _
  refine xw_aload (pc := 0) dX0_work_0 5 rfl ?_
  refine xw_iconst (v := nI 0) (pc := 2) dX0_work_2 rfl ?_
  refine xw_aload_n (pc := 3) dX0_work_3 0 rfl ?_
  refine xw_iload_n (pc := 4) dX0_work_4 1 rfl ?_
  refine xw_iload_n (pc := 5) dX0_work_5 2 rfl ?_
  refine xw_iload_n (pc := 6) dX0_work_6 3 rfl ?_
  refine xw_iload (pc := 7) dX0_work_7 4 rfl ?_
  refine xw_callF (pc := 9) (xr_V (as := [_, _, _, _]) ok_X1_work rfl (by decide) q1627 q1628 q1629 (by rw [hx]; rfl) (by rw [hx]; rfl) dX0_work_9 rfl rfl (Nat.le_of_ble_eq_true rfl)) (h) ?_
  intro g1 hc1 hm1
  obtain ⟨t1, t2, t3⟩ := hE g1 hc1
  have t2n : xown g1 out ≠ 0 := by rw [t2]; decide
  refine xw_i2l (pc := 12) dX0_work_12 ?_
  refine xw_last (k := 0) (pc := 13) dX0_work_13 (by simp [-List.getD_eq_getElem?_getD, xE_setI, xsz_setI, xsl_setI, xtag_setI, xown_setI, xlen_setI, xE_setR, xsz_setR, xsl_setR, xtag_setR, xown_setR, xlen_setR, xE_setW, xsz_setW, xsl_setW, xtag_setW, xown_setW, xlen_setW, xi_setR, xi_setW, xr_setI, xr_setW, xww_setI, xww_setR, xi_setI, xr_setR, xww_setW, xE_new, xsz_new, xsl_new, hx, t1, t3, t2n]) (by first | assumption | (simp [-List.getD_eq_getElem?_getD, xE_setI, xsz_setI, xsl_setI, xtag_setI, xown_setI, xlen_setI, xE_setR, xsz_setR, xsl_setR, xtag_setR, xown_setR, xlen_setR, xE_setW, xsz_setW, xsl_setW, xtag_setW, xown_setW, xlen_setW, xi_setR, xi_setW, xr_setI, xr_setW, xww_setI, xww_setR, xi_setI, xr_setR, xww_setW, xE_new, xsz_new, xsl_new, hx, t1, t3, t2n]; done) | (simp [-List.getD_eq_getElem?_getD, xE_setI, xsz_setI, xsl_setI, xtag_setI, xown_setI, xlen_setI, xE_setR, xsz_setR, xsl_setR, xtag_setR, xown_setR, xlen_setR, xE_setW, xsz_setW, xsl_setW, xtag_setW, xown_setW, xlen_setW, xi_setR, xi_setW, xr_setI, xr_setW, xww_setI, xww_setR, xi_setI, xr_setR, xww_setW, xE_new, xsz_new, xsl_new, hx, t1, t3, t2n]; assumption)) rfl (by rw [t3]; decide) ?_
  refine xw_goto (pc := 14) 29 dX0_work_14 rfl ?_
  refine xw_iconst (v := nI 0) (pc := 29) dX0_work_29 rfl ?_
  refine xw_iret (pc := 30) .int dX0_work_30 rfl ?_ 
  exact ⟨rfl, g1, hc1, rfl⟩

theorem SP_X0_work_23 {d : Nat} {g : xG} {x out : Nat} {p0 p1 p2 p3 : Int32} {E : xG → Prop} (hx : xtag g x = 1) (h : XM M_X1_work (d + 90) [.ref x, .int p0, .int p1, .int p2, .int p3] g (xErr 23 E)) : XM M_X0_work (d + 91) [.ref x, .int p0, .int p1, .int p2, .int p3, .ref out] g (xVal (.int (nI 1)) E) := by
  refine xm_of (by decide +kernel) (Nat.le_of_ble_eq_true rfl) ?_
  show XW _ _ 0 [(0, _), (1, _), (2, _), (3, _), (4, _), (5, _)] [] _ _
  refine xw_aload (pc := 0) dX0_work_0 5 rfl ?_
  refine xw_iconst (v := nI 0) (pc := 2) dX0_work_2 rfl ?_
  refine xw_aload_n (pc := 3) dX0_work_3 0 rfl ?_
  refine xw_iload_n (pc := 4) dX0_work_4 1 rfl ?_
  refine xw_iload_n (pc := 5) dX0_work_5 2 rfl ?_
  refine xw_iload_n (pc := 6) dX0_work_6 3 rfl ?_
  refine xw_iload (pc := 7) dX0_work_7 4 rfl ?_
  refine xw_call (pc := 9) (xr_V (as := [_, _, _, _]) ok_X1_work rfl (by decide) q1627 q1628 q1629 (by rw [hx]; rfl) (by rw [hx]; rfl) dX0_work_9 rfl rfl (Nat.le_of_ble_eq_true rfl)) (h) ?_
  intro rs g1 hc1 hm1
  obtain ⟨q, rfl, q1, q2, q3⟩ := hc1
  refine xx_catch [] (0, 14, 17, 13) [(0, 14, 21, 21), (0, 14, 25, 34)] rfl (fun z hz => by cases hz) (cvE (by decide) (by decide)) (by decide) q1032 (by rw [q1]; exact q1070) (by rw [q1]; decide) (by rw [q1]; decide) (by rw [q2]; decide) ?_
  refine xw_astore (l' := [(6, _), (0, _), (1, _), (2, _), (3, _), (4, _), (5, _)]) (pc := 17) dX0_work_17 (by decide) rfl ?_
  refine xw_iconst (v := nI 1) (pc := 19) dX0_work_19 rfl ?_
  refine xw_iret (pc := 20) .int dX0_work_20 rfl ?_ 
  exact ⟨rfl, q3⟩

theorem SP_X0_work_22 {d : Nat} {g : xG} {x out : Nat} {p0 p1 p2 p3 : Int32} {E : xG → Prop} (hx : xtag g x = 1) (h : XM M_X1_work (d + 90) [.ref x, .int p0, .int p1, .int p2, .int p3] g (xErr 22 E)) : XM M_X0_work (d + 91) [.ref x, .int p0, .int p1, .int p2, .int p3, .ref out] g (xVal (.int (nI 2)) E) := by
  refine xm_of (by decide +kernel) (Nat.le_of_ble_eq_true rfl) ?_
  show XW _ _ 0 [(0, _), (1, _), (2, _), (3, _), (4, _), (5, _)] [] _ _
  refine xw_aload (pc := 0) dX0_work_0 5 rfl ?_
  refine xw_iconst (v := nI 0) (pc := 2) dX0_work_2 rfl ?_
  refine xw_aload_n (pc := 3) dX0_work_3 0 rfl ?_
  refine xw_iload_n (pc := 4) dX0_work_4 1 rfl ?_
  refine xw_iload_n (pc := 5) dX0_work_5 2 rfl ?_
  refine xw_iload_n (pc := 6) dX0_work_6 3 rfl ?_
  refine xw_iload (pc := 7) dX0_work_7 4 rfl ?_
  refine xw_call (pc := 9) (xr_V (as := [_, _, _, _]) ok_X1_work rfl (by decide) q1627 q1628 q1629 (by rw [hx]; rfl) (by rw [hx]; rfl) dX0_work_9 rfl rfl (Nat.le_of_ble_eq_true rfl)) (h) ?_
  intro rs g1 hc1 hm1
  obtain ⟨q, rfl, q1, q2, q3⟩ := hc1
  have hp : ∀ z ∈ [((0 : Nat), (14 : Nat), (17 : Nat), (13 : Nat))], xNot "PolicyNotationLaw" 9 (xcn (xtag g1 q)) z := by
    intro z hz
    rw [q1]
    have hz2 : z = (0, 14, 17, 13) := by simpa using hz
    subst hz2
    exact Or.inr ⟨by decide, _, q1032, by decide +kernel⟩
  refine xx_catch [(0, 14, 17, 13)] (0, 14, 21, 21) [(0, 14, 25, 34)] rfl hp (cvE (by decide) (by decide)) (by decide) q1175 (by rw [q1]; exact q175) (by rw [q1]; decide) (by rw [q1]; decide) (by rw [q2]; decide) ?_
  refine xw_astore (l' := [(6, _), (0, _), (1, _), (2, _), (3, _), (4, _), (5, _)]) (pc := 21) dX0_work_21 (by decide) rfl ?_
  refine xw_iconst (v := nI 2) (pc := 23) dX0_work_23 rfl ?_
  refine xw_iret (pc := 24) .int dX0_work_24 rfl ?_ 
  exact ⟨rfl, q3⟩

theorem SP_X0_work_26 {d : Nat} {g : xG} {x out : Nat} {p0 p1 p2 p3 : Int32} {E : xG → Prop} (hx : xtag g x = 1) (h : XM M_X1_work (d + 90) [.ref x, .int p0, .int p1, .int p2, .int p3] g (xErr 26 E)) : XM M_X0_work (d + 91) [.ref x, .int p0, .int p1, .int p2, .int p3, .ref out] g (xVal (.int (nI 3)) E) := by
  refine xm_of (by decide +kernel) (Nat.le_of_ble_eq_true rfl) ?_
  show XW _ _ 0 [(0, _), (1, _), (2, _), (3, _), (4, _), (5, _)] [] _ _
  refine xw_aload (pc := 0) dX0_work_0 5 rfl ?_
  refine xw_iconst (v := nI 0) (pc := 2) dX0_work_2 rfl ?_
  refine xw_aload_n (pc := 3) dX0_work_3 0 rfl ?_
  refine xw_iload_n (pc := 4) dX0_work_4 1 rfl ?_
  refine xw_iload_n (pc := 5) dX0_work_5 2 rfl ?_
  refine xw_iload_n (pc := 6) dX0_work_6 3 rfl ?_
  refine xw_iload (pc := 7) dX0_work_7 4 rfl ?_
  refine xw_call (pc := 9) (xr_V (as := [_, _, _, _]) ok_X1_work rfl (by decide) q1627 q1628 q1629 (by rw [hx]; rfl) (by rw [hx]; rfl) dX0_work_9 rfl rfl (Nat.le_of_ble_eq_true rfl)) (h) ?_
  intro rs g1 hc1 hm1
  obtain ⟨q, rfl, q1, q2, q3⟩ := hc1
  have hp : ∀ z ∈ [((0 : Nat), (14 : Nat), (17 : Nat), (13 : Nat)), ((0 : Nat), (14 : Nat), (21 : Nat), (21 : Nat))], xNot "PolicyNotationLaw" 9 (xcn (xtag g1 q)) z := by
    intro z hz
    rw [q1]
    have hz2 : z = (0, 14, 17, 13) ∨ z = (0, 14, 21, 21) := by simpa using hz
    rcases hz2 with rfl | rfl
    · exact Or.inr ⟨by decide, _, q1032, by decide +kernel⟩
    · exact Or.inr ⟨by decide, _, q1175, by decide +kernel⟩
  refine xx_catch [(0, 14, 17, 13), (0, 14, 21, 21)] (0, 14, 25, 34) [] rfl hp (cvE (by decide) (by decide)) (by decide) q1257 (by rw [q1]; exact q1312) (by rw [q1]; decide) (by rw [q1]; decide) (by rw [q2]; decide) ?_
  refine xw_astore (l' := [(6, _), (0, _), (1, _), (2, _), (3, _), (4, _), (5, _)]) (pc := 25) dX0_work_25 (by decide) rfl ?_
  refine xw_iconst (v := nI 3) (pc := 27) dX0_work_27 rfl ?_
  refine xw_iret (pc := 28) .int dX0_work_28 rfl ?_ 
  exact ⟨rfl, q3⟩

theorem SP_X0_caseOf_ok {d : Nat} {g : xG} {x out : Nat} {p0 p1 : Int32} {E : xG → Prop} (hx : xtag g x = 1) (hE : ∀ g', E g' → xtag g' out = 106 ∧ xown g' out = 4 ∧ xlen g' out = 1) {v : Int32} (h : XM M_X1_caseOf (d + 90) [.ref x, .int p0, .int p1] g (xVal (.int v) E)) : XM M_X0_caseOf (d + 91) [.ref x, .int p0, .int p1, .ref out] g (xVal (.int (nI 0)) (fun g' => ∃ g1, E g1 ∧ g' = xsetW g1 out 0 (v.toInt64.toUInt64))) := by
  refine xm_of (by decide +kernel) (Nat.le_of_ble_eq_true rfl) ?_
  show XW _ _ 0 [(0, _), (1, _), (2, _), (3, _)] [] _ _
  refine xw_aload_n (pc := 0) dX0_caseOf_0 3 rfl ?_
  refine xw_iconst (v := nI 0) (pc := 1) dX0_caseOf_1 rfl ?_
  refine xw_aload_n (pc := 2) dX0_caseOf_2 0 rfl ?_
  refine xw_iload_n (pc := 3) dX0_caseOf_3 1 rfl ?_
  refine xw_iload_n (pc := 4) dX0_caseOf_4 2 rfl ?_
  refine xw_callF (pc := 5) (xr_V (as := [_, _]) ok_X1_caseOf rfl (by decide) q1656 q1657 q1658 (by rw [hx]; rfl) (by rw [hx]; rfl) dX0_caseOf_5 rfl rfl (Nat.le_of_ble_eq_true rfl)) (h) ?_
  intro g1 hc1 hm1
  obtain ⟨t1, t2, t3⟩ := hE g1 hc1
  have t2n : xown g1 out ≠ 0 := by rw [t2]; decide
  refine xw_i2l (pc := 8) dX0_caseOf_8 ?_
  refine xw_last (k := 0) (pc := 9) dX0_caseOf_9 (by simp [-List.getD_eq_getElem?_getD, xE_setI, xsz_setI, xsl_setI, xtag_setI, xown_setI, xlen_setI, xE_setR, xsz_setR, xsl_setR, xtag_setR, xown_setR, xlen_setR, xE_setW, xsz_setW, xsl_setW, xtag_setW, xown_setW, xlen_setW, xi_setR, xi_setW, xr_setI, xr_setW, xww_setI, xww_setR, xi_setI, xr_setR, xww_setW, xE_new, xsz_new, xsl_new, hx, t1, t3, t2n]) (by first | assumption | (simp [-List.getD_eq_getElem?_getD, xE_setI, xsz_setI, xsl_setI, xtag_setI, xown_setI, xlen_setI, xE_setR, xsz_setR, xsl_setR, xtag_setR, xown_setR, xlen_setR, xE_setW, xsz_setW, xsl_setW, xtag_setW, xown_setW, xlen_setW, xi_setR, xi_setW, xr_setI, xr_setW, xww_setI, xww_setR, xi_setI, xr_setR, xww_setW, xE_new, xsz_new, xsl_new, hx, t1, t3, t2n]; done) | (simp [-List.getD_eq_getElem?_getD, xE_setI, xsz_setI, xsl_setI, xtag_setI, xown_setI, xlen_setI, xE_setR, xsz_setR, xsl_setR, xtag_setR, xown_setR, xlen_setR, xE_setW, xsz_setW, xsl_setW, xtag_setW, xown_setW, xlen_setW, xi_setR, xi_setW, xr_setI, xr_setW, xww_setI, xww_setR, xi_setI, xr_setR, xww_setW, xE_new, xsz_new, xsl_new, hx, t1, t3, t2n]; assumption)) rfl (by rw [t3]; decide) ?_
  refine xw_goto (pc := 10) 21 dX0_caseOf_10 rfl ?_
  refine xw_iconst (v := nI 0) (pc := 21) dX0_caseOf_21 rfl ?_
  refine xw_iret (pc := 22) .int dX0_caseOf_22 rfl ?_ 
  exact ⟨rfl, g1, hc1, rfl⟩

theorem SP_X0_caseOf_23 {d : Nat} {g : xG} {x out : Nat} {p0 p1 : Int32} {E : xG → Prop} (hx : xtag g x = 1) (h : XM M_X1_caseOf (d + 90) [.ref x, .int p0, .int p1] g (xErr 23 E)) : XM M_X0_caseOf (d + 91) [.ref x, .int p0, .int p1, .ref out] g (xVal (.int (nI 1)) E) := by
  refine xm_of (by decide +kernel) (Nat.le_of_ble_eq_true rfl) ?_
  show XW _ _ 0 [(0, _), (1, _), (2, _), (3, _)] [] _ _
  refine xw_aload_n (pc := 0) dX0_caseOf_0 3 rfl ?_
  refine xw_iconst (v := nI 0) (pc := 1) dX0_caseOf_1 rfl ?_
  refine xw_aload_n (pc := 2) dX0_caseOf_2 0 rfl ?_
  refine xw_iload_n (pc := 3) dX0_caseOf_3 1 rfl ?_
  refine xw_iload_n (pc := 4) dX0_caseOf_4 2 rfl ?_
  refine xw_call (pc := 5) (xr_V (as := [_, _]) ok_X1_caseOf rfl (by decide) q1656 q1657 q1658 (by rw [hx]; rfl) (by rw [hx]; rfl) dX0_caseOf_5 rfl rfl (Nat.le_of_ble_eq_true rfl)) (h) ?_
  intro rs g1 hc1 hm1
  obtain ⟨q, rfl, q1, q2, q3⟩ := hc1
  refine xx_catch [] (0, 10, 13, 13) [(0, 10, 17, 21)] rfl (fun z hz => by cases hz) (cvE (by decide) (by decide)) (by decide) q1032 (by rw [q1]; exact q1070) (by rw [q1]; decide) (by rw [q1]; decide) (by rw [q2]; decide) ?_
  refine xw_astore (l' := [(4, _), (0, _), (1, _), (2, _), (3, _)]) (pc := 13) dX0_caseOf_13 (by decide) rfl ?_
  refine xw_iconst (v := nI 1) (pc := 15) dX0_caseOf_15 rfl ?_
  refine xw_iret (pc := 16) .int dX0_caseOf_16 rfl ?_ 
  exact ⟨rfl, q3⟩

theorem SP_X0_caseOf_22 {d : Nat} {g : xG} {x out : Nat} {p0 p1 : Int32} {E : xG → Prop} (hx : xtag g x = 1) (h : XM M_X1_caseOf (d + 90) [.ref x, .int p0, .int p1] g (xErr 22 E)) : XM M_X0_caseOf (d + 91) [.ref x, .int p0, .int p1, .ref out] g (xVal (.int (nI 2)) E) := by
  refine xm_of (by decide +kernel) (Nat.le_of_ble_eq_true rfl) ?_
  show XW _ _ 0 [(0, _), (1, _), (2, _), (3, _)] [] _ _
  refine xw_aload_n (pc := 0) dX0_caseOf_0 3 rfl ?_
  refine xw_iconst (v := nI 0) (pc := 1) dX0_caseOf_1 rfl ?_
  refine xw_aload_n (pc := 2) dX0_caseOf_2 0 rfl ?_
  refine xw_iload_n (pc := 3) dX0_caseOf_3 1 rfl ?_
  refine xw_iload_n (pc := 4) dX0_caseOf_4 2 rfl ?_
  refine xw_call (pc := 5) (xr_V (as := [_, _]) ok_X1_caseOf rfl (by decide) q1656 q1657 q1658 (by rw [hx]; rfl) (by rw [hx]; rfl) dX0_caseOf_5 rfl rfl (Nat.le_of_ble_eq_true rfl)) (h) ?_
  intro rs g1 hc1 hm1
  obtain ⟨q, rfl, q1, q2, q3⟩ := hc1
  have hp : ∀ z ∈ [((0 : Nat), (10 : Nat), (13 : Nat), (13 : Nat))], xNot "PolicyNotationLaw" 5 (xcn (xtag g1 q)) z := by
    intro z hz
    rw [q1]
    have hz2 : z = (0, 10, 13, 13) := by simpa using hz
    subst hz2
    exact Or.inr ⟨by decide, _, q1032, by decide +kernel⟩
  refine xx_catch [(0, 10, 13, 13)] (0, 10, 17, 21) [] rfl hp (cvE (by decide) (by decide)) (by decide) q1175 (by rw [q1]; exact q175) (by rw [q1]; decide) (by rw [q1]; decide) (by rw [q2]; decide) ?_
  refine xw_astore (l' := [(4, _), (0, _), (1, _), (2, _), (3, _)]) (pc := 17) dX0_caseOf_17 (by decide) rfl ?_
  refine xw_iconst (v := nI 2) (pc := 19) dX0_caseOf_19 rfl ?_
  refine xw_iret (pc := 20) .int dX0_caseOf_20 rfl ?_ 
  exact ⟨rfl, q3⟩

theorem SP_X0_dropCase_ok {d : Nat} {g : xG} {x out : Nat} {p0 : Int32} {E : xG → Prop} (hx : xtag g x = 1) (hE : ∀ g', E g' → xtag g' out = 106 ∧ xown g' out = 4 ∧ xlen g' out = 1) {v : Int32} (h : XM M_X1_dropCase (d + 90) [.ref x, .int p0] g (xVal (.int v) E)) : XM M_X0_dropCase (d + 91) [.ref x, .int p0, .ref out] g (xVal (.int (nI 0)) (fun g' => ∃ g1, E g1 ∧ g' = xsetW g1 out 0 (v.toInt64.toUInt64))) := by
  refine xm_of (by decide +kernel) (Nat.le_of_ble_eq_true rfl) ?_
  show XW _ _ 0 [(0, _), (1, _), (2, _)] [] _ _
  refine xw_aload_n (pc := 0) dX0_dropCase_0 2 rfl ?_
  refine xw_iconst (v := nI 0) (pc := 1) dX0_dropCase_1 rfl ?_
  refine xw_aload_n (pc := 2) dX0_dropCase_2 0 rfl ?_
  refine xw_iload_n (pc := 3) dX0_dropCase_3 1 rfl ?_
  refine xw_callF (pc := 4) (xr_V (as := [_]) ok_X1_dropCase rfl (by decide) q1676 q1677 q1678 (by rw [hx]; rfl) (by rw [hx]; rfl) dX0_dropCase_4 rfl rfl (Nat.le_of_ble_eq_true rfl)) (h) ?_
  intro g1 hc1 hm1
  obtain ⟨t1, t2, t3⟩ := hE g1 hc1
  have t2n : xown g1 out ≠ 0 := by rw [t2]; decide
  refine xw_i2l (pc := 7) dX0_dropCase_7 ?_
  refine xw_last (k := 0) (pc := 8) dX0_dropCase_8 (by simp [-List.getD_eq_getElem?_getD, xE_setI, xsz_setI, xsl_setI, xtag_setI, xown_setI, xlen_setI, xE_setR, xsz_setR, xsl_setR, xtag_setR, xown_setR, xlen_setR, xE_setW, xsz_setW, xsl_setW, xtag_setW, xown_setW, xlen_setW, xi_setR, xi_setW, xr_setI, xr_setW, xww_setI, xww_setR, xi_setI, xr_setR, xww_setW, xE_new, xsz_new, xsl_new, hx, t1, t3, t2n]) (by first | assumption | (simp [-List.getD_eq_getElem?_getD, xE_setI, xsz_setI, xsl_setI, xtag_setI, xown_setI, xlen_setI, xE_setR, xsz_setR, xsl_setR, xtag_setR, xown_setR, xlen_setR, xE_setW, xsz_setW, xsl_setW, xtag_setW, xown_setW, xlen_setW, xi_setR, xi_setW, xr_setI, xr_setW, xww_setI, xww_setR, xi_setI, xr_setR, xww_setW, xE_new, xsz_new, xsl_new, hx, t1, t3, t2n]; done) | (simp [-List.getD_eq_getElem?_getD, xE_setI, xsz_setI, xsl_setI, xtag_setI, xown_setI, xlen_setI, xE_setR, xsz_setR, xsl_setR, xtag_setR, xown_setR, xlen_setR, xE_setW, xsz_setW, xsl_setW, xtag_setW, xown_setW, xlen_setW, xi_setR, xi_setW, xr_setI, xr_setW, xww_setI, xww_setR, xi_setI, xr_setR, xww_setW, xE_new, xsz_new, xsl_new, hx, t1, t3, t2n]; assumption)) rfl (by rw [t3]; decide) ?_
  refine xw_goto (pc := 9) 15 dX0_dropCase_9 rfl ?_
  refine xw_iconst (v := nI 0) (pc := 15) dX0_dropCase_15 rfl ?_
  refine xw_iret (pc := 16) .int dX0_dropCase_16 rfl ?_ 
  exact ⟨rfl, g1, hc1, rfl⟩

theorem SP_X0_dropCase_23 {d : Nat} {g : xG} {x out : Nat} {p0 : Int32} {E : xG → Prop} (hx : xtag g x = 1) (h : XM M_X1_dropCase (d + 90) [.ref x, .int p0] g (xErr 23 E)) : XM M_X0_dropCase (d + 91) [.ref x, .int p0, .ref out] g (xVal (.int (nI 1)) E) := by
  refine xm_of (by decide +kernel) (Nat.le_of_ble_eq_true rfl) ?_
  show XW _ _ 0 [(0, _), (1, _), (2, _)] [] _ _
  refine xw_aload_n (pc := 0) dX0_dropCase_0 2 rfl ?_
  refine xw_iconst (v := nI 0) (pc := 1) dX0_dropCase_1 rfl ?_
  refine xw_aload_n (pc := 2) dX0_dropCase_2 0 rfl ?_
  refine xw_iload_n (pc := 3) dX0_dropCase_3 1 rfl ?_
  refine xw_call (pc := 4) (xr_V (as := [_]) ok_X1_dropCase rfl (by decide) q1676 q1677 q1678 (by rw [hx]; rfl) (by rw [hx]; rfl) dX0_dropCase_4 rfl rfl (Nat.le_of_ble_eq_true rfl)) (h) ?_
  intro rs g1 hc1 hm1
  obtain ⟨q, rfl, q1, q2, q3⟩ := hc1
  refine xx_catch [] (0, 9, 12, 13) [] rfl (fun z hz => by cases hz) (cvE (by decide) (by decide)) (by decide) q1032 (by rw [q1]; exact q1070) (by rw [q1]; decide) (by rw [q1]; decide) (by rw [q2]; decide) ?_
  refine xw_astore_n (l' := [(3, _), (0, _), (1, _), (2, _)]) (pc := 12) dX0_dropCase_12 rfl (by decide) rfl ?_
  refine xw_iconst (v := nI 1) (pc := 13) dX0_dropCase_13 rfl ?_
  refine xw_iret (pc := 14) .int dX0_dropCase_14 rfl ?_ 
  exact ⟨rfl, q3⟩

theorem SP_X0_without_ok {d : Nat} {g : xG} {x out : Nat} {p0 : Int32} {E : xG → Prop} (hx : xtag g x = 1) (hE : ∀ g', E g' → xtag g' out = 106 ∧ xown g' out = 4 ∧ xlen g' out = 1) {v : Int32} (h : XM M_X1_without (d + 90) [.ref x, .int p0] g (xVal (.int v) E)) : XM M_X0_without (d + 91) [.ref x, .int p0, .ref out] g (xVal (.int (nI 0)) (fun g' => ∃ g1, E g1 ∧ g' = xsetW g1 out 0 (v.toInt64.toUInt64))) := by
  refine xm_of (by decide +kernel) (Nat.le_of_ble_eq_true rfl) ?_
  show XW _ _ 0 [(0, _), (1, _), (2, _)] [] _ _
  refine xw_aload_n (pc := 0) dX0_without_0 2 rfl ?_
  refine xw_iconst (v := nI 0) (pc := 1) dX0_without_1 rfl ?_
  refine xw_aload_n (pc := 2) dX0_without_2 0 rfl ?_
  refine xw_iload_n (pc := 3) dX0_without_3 1 rfl ?_
  refine xw_callF (pc := 4) (xr_V (as := [_]) ok_X1_without rfl (by decide) q1684 q1685 q1686 (by rw [hx]; rfl) (by rw [hx]; rfl) dX0_without_4 rfl rfl (Nat.le_of_ble_eq_true rfl)) (h) ?_
  intro g1 hc1 hm1
  obtain ⟨t1, t2, t3⟩ := hE g1 hc1
  have t2n : xown g1 out ≠ 0 := by rw [t2]; decide
  refine xw_i2l (pc := 7) dX0_without_7 ?_
  refine xw_last (k := 0) (pc := 8) dX0_without_8 (by simp [-List.getD_eq_getElem?_getD, xE_setI, xsz_setI, xsl_setI, xtag_setI, xown_setI, xlen_setI, xE_setR, xsz_setR, xsl_setR, xtag_setR, xown_setR, xlen_setR, xE_setW, xsz_setW, xsl_setW, xtag_setW, xown_setW, xlen_setW, xi_setR, xi_setW, xr_setI, xr_setW, xww_setI, xww_setR, xi_setI, xr_setR, xww_setW, xE_new, xsz_new, xsl_new, hx, t1, t3, t2n]) (by first | assumption | (simp [-List.getD_eq_getElem?_getD, xE_setI, xsz_setI, xsl_setI, xtag_setI, xown_setI, xlen_setI, xE_setR, xsz_setR, xsl_setR, xtag_setR, xown_setR, xlen_setR, xE_setW, xsz_setW, xsl_setW, xtag_setW, xown_setW, xlen_setW, xi_setR, xi_setW, xr_setI, xr_setW, xww_setI, xww_setR, xi_setI, xr_setR, xww_setW, xE_new, xsz_new, xsl_new, hx, t1, t3, t2n]; done) | (simp [-List.getD_eq_getElem?_getD, xE_setI, xsz_setI, xsl_setI, xtag_setI, xown_setI, xlen_setI, xE_setR, xsz_setR, xsl_setR, xtag_setR, xown_setR, xlen_setR, xE_setW, xsz_setW, xsl_setW, xtag_setW, xown_setW, xlen_setW, xi_setR, xi_setW, xr_setI, xr_setW, xww_setI, xww_setR, xi_setI, xr_setR, xww_setW, xE_new, xsz_new, xsl_new, hx, t1, t3, t2n]; assumption)) rfl (by rw [t3]; decide) ?_
  refine xw_goto (pc := 9) 15 dX0_without_9 rfl ?_
  refine xw_iconst (v := nI 0) (pc := 15) dX0_without_15 rfl ?_
  refine xw_iret (pc := 16) .int dX0_without_16 rfl ?_ 
  exact ⟨rfl, g1, hc1, rfl⟩

theorem SP_X0_without_23 {d : Nat} {g : xG} {x out : Nat} {p0 : Int32} {E : xG → Prop} (hx : xtag g x = 1) (h : XM M_X1_without (d + 90) [.ref x, .int p0] g (xErr 23 E)) : XM M_X0_without (d + 91) [.ref x, .int p0, .ref out] g (xVal (.int (nI 1)) E) := by
  refine xm_of (by decide +kernel) (Nat.le_of_ble_eq_true rfl) ?_
  show XW _ _ 0 [(0, _), (1, _), (2, _)] [] _ _
  refine xw_aload_n (pc := 0) dX0_without_0 2 rfl ?_
  refine xw_iconst (v := nI 0) (pc := 1) dX0_without_1 rfl ?_
  refine xw_aload_n (pc := 2) dX0_without_2 0 rfl ?_
  refine xw_iload_n (pc := 3) dX0_without_3 1 rfl ?_
  refine xw_call (pc := 4) (xr_V (as := [_]) ok_X1_without rfl (by decide) q1684 q1685 q1686 (by rw [hx]; rfl) (by rw [hx]; rfl) dX0_without_4 rfl rfl (Nat.le_of_ble_eq_true rfl)) (h) ?_
  intro rs g1 hc1 hm1
  obtain ⟨q, rfl, q1, q2, q3⟩ := hc1
  refine xx_catch [] (0, 9, 12, 13) [] rfl (fun z hz => by cases hz) (cvE (by decide) (by decide)) (by decide) q1032 (by rw [q1]; exact q1070) (by rw [q1]; decide) (by rw [q1]; decide) (by rw [q2]; decide) ?_
  refine xw_astore_n (l' := [(3, _), (0, _), (1, _), (2, _)]) (pc := 12) dX0_without_12 rfl (by decide) rfl ?_
  refine xw_iconst (v := nI 1) (pc := 13) dX0_without_13 rfl ?_
  refine xw_iret (pc := 14) .int dX0_without_14 rfl ?_ 
  exact ⟨rfl, q3⟩

theorem SP_X0_sheet_ok {d : Nat} {g : xG} {x out : Nat} {p0 : Int32} {E : xG → Prop} (hx : xtag g x = 1) (hE : ∀ g', E g' → xtag g' out = 106 ∧ xown g' out = 4 ∧ xlen g' out = 1) {v : Int32} (h : XM M_X1_sheet (d + 90) [.ref x, .int p0] g (xVal (.int v) E)) : XM M_X0_sheet (d + 91) [.ref x, .int p0, .ref out] g (xVal (.int (nI 0)) (fun g' => ∃ g1, E g1 ∧ g' = xsetW g1 out 0 (v.toInt64.toUInt64))) := by
  refine xm_of (by decide +kernel) (Nat.le_of_ble_eq_true rfl) ?_
  show XW _ _ 0 [(0, _), (1, _), (2, _)] [] _ _
  refine xw_aload_n (pc := 0) dX0_sheet_0 2 rfl ?_
  refine xw_iconst (v := nI 0) (pc := 1) dX0_sheet_1 rfl ?_
  refine xw_aload_n (pc := 2) dX0_sheet_2 0 rfl ?_
  refine xw_iload_n (pc := 3) dX0_sheet_3 1 rfl ?_
  refine xw_callF (pc := 4) (xr_V (as := [_]) ok_X1_sheet rfl (by decide) q1699 q1700 q1701 (by rw [hx]; rfl) (by rw [hx]; rfl) dX0_sheet_4 rfl rfl (Nat.le_of_ble_eq_true rfl)) (h) ?_
  intro g1 hc1 hm1
  obtain ⟨t1, t2, t3⟩ := hE g1 hc1
  have t2n : xown g1 out ≠ 0 := by rw [t2]; decide
  refine xw_i2l (pc := 7) dX0_sheet_7 ?_
  refine xw_last (k := 0) (pc := 8) dX0_sheet_8 (by simp [-List.getD_eq_getElem?_getD, xE_setI, xsz_setI, xsl_setI, xtag_setI, xown_setI, xlen_setI, xE_setR, xsz_setR, xsl_setR, xtag_setR, xown_setR, xlen_setR, xE_setW, xsz_setW, xsl_setW, xtag_setW, xown_setW, xlen_setW, xi_setR, xi_setW, xr_setI, xr_setW, xww_setI, xww_setR, xi_setI, xr_setR, xww_setW, xE_new, xsz_new, xsl_new, hx, t1, t3, t2n]) (by first | assumption | (simp [-List.getD_eq_getElem?_getD, xE_setI, xsz_setI, xsl_setI, xtag_setI, xown_setI, xlen_setI, xE_setR, xsz_setR, xsl_setR, xtag_setR, xown_setR, xlen_setR, xE_setW, xsz_setW, xsl_setW, xtag_setW, xown_setW, xlen_setW, xi_setR, xi_setW, xr_setI, xr_setW, xww_setI, xww_setR, xi_setI, xr_setR, xww_setW, xE_new, xsz_new, xsl_new, hx, t1, t3, t2n]; done) | (simp [-List.getD_eq_getElem?_getD, xE_setI, xsz_setI, xsl_setI, xtag_setI, xown_setI, xlen_setI, xE_setR, xsz_setR, xsl_setR, xtag_setR, xown_setR, xlen_setR, xE_setW, xsz_setW, xsl_setW, xtag_setW, xown_setW, xlen_setW, xi_setR, xi_setW, xr_setI, xr_setW, xww_setI, xww_setR, xi_setI, xr_setR, xww_setW, xE_new, xsz_new, xsl_new, hx, t1, t3, t2n]; assumption)) rfl (by rw [t3]; decide) ?_
  refine xw_goto (pc := 9) 15 dX0_sheet_9 rfl ?_
  refine xw_iconst (v := nI 0) (pc := 15) dX0_sheet_15 rfl ?_
  refine xw_iret (pc := 16) .int dX0_sheet_16 rfl ?_ 
  exact ⟨rfl, g1, hc1, rfl⟩

theorem SP_X0_sheet_22 {d : Nat} {g : xG} {x out : Nat} {p0 : Int32} {E : xG → Prop} (hx : xtag g x = 1) (h : XM M_X1_sheet (d + 90) [.ref x, .int p0] g (xErr 22 E)) : XM M_X0_sheet (d + 91) [.ref x, .int p0, .ref out] g (xVal (.int (nI 1)) E) := by
  refine xm_of (by decide +kernel) (Nat.le_of_ble_eq_true rfl) ?_
  show XW _ _ 0 [(0, _), (1, _), (2, _)] [] _ _
  refine xw_aload_n (pc := 0) dX0_sheet_0 2 rfl ?_
  refine xw_iconst (v := nI 0) (pc := 1) dX0_sheet_1 rfl ?_
  refine xw_aload_n (pc := 2) dX0_sheet_2 0 rfl ?_
  refine xw_iload_n (pc := 3) dX0_sheet_3 1 rfl ?_
  refine xw_call (pc := 4) (xr_V (as := [_]) ok_X1_sheet rfl (by decide) q1699 q1700 q1701 (by rw [hx]; rfl) (by rw [hx]; rfl) dX0_sheet_4 rfl rfl (Nat.le_of_ble_eq_true rfl)) (h) ?_
  intro rs g1 hc1 hm1
  obtain ⟨q, rfl, q1, q2, q3⟩ := hc1
  refine xx_catch [] (0, 9, 12, 21) [] rfl (fun z hz => by cases hz) (cvE (by decide) (by decide)) (by decide) q1175 (by rw [q1]; exact q175) (by rw [q1]; decide) (by rw [q1]; decide) (by rw [q2]; decide) ?_
  refine xw_astore_n (l' := [(3, _), (0, _), (1, _), (2, _)]) (pc := 12) dX0_sheet_12 rfl (by decide) rfl ?_
  refine xw_iconst (v := nI 1) (pc := 13) dX0_sheet_13 rfl ?_
  refine xw_iret (pc := 14) .int dX0_sheet_14 rfl ?_ 
  exact ⟨rfl, q3⟩

theorem SP_X0_lay_ok {d : Nat} {g : xG} {x out : Nat} {p0 p1 p2 : Int32} {E : xG → Prop} (hx : xtag g x = 1) (hE : ∀ g', E g' → xtag g' out = 106 ∧ xown g' out = 4 ∧ xlen g' out = 1) {v : Int32} (h : XM M_X1_lay (d + 90) [.ref x, .int p0, .int p1, .int p2] g (xVal (.int v) E)) : XM M_X0_lay (d + 91) [.ref x, .int p0, .int p1, .int p2, .ref out] g (xVal (.int (nI 0)) (fun g' => ∃ g1, E g1 ∧ g' = xsetW g1 out 0 (v.toInt64.toUInt64))) := by
  refine xm_of (by decide +kernel) (Nat.le_of_ble_eq_true rfl) ?_
  show XW _ _ 0 [(0, _), (1, _), (2, _), (3, _), (4, _)] [] _ _
  refine xw_aload (pc := 0) dX0_lay_0 4 rfl ?_
  refine xw_iconst (v := nI 0) (pc := 2) dX0_lay_2 rfl ?_
  refine xw_aload_n (pc := 3) dX0_lay_3 0 rfl ?_
  refine xw_iload_n (pc := 4) dX0_lay_4 1 rfl ?_
  refine xw_iload_n (pc := 5) dX0_lay_5 2 rfl ?_
  refine xw_iload_n (pc := 6) dX0_lay_6 3 rfl ?_
  refine xw_callF (pc := 7) (xr_V (as := [_, _, _]) ok_X1_lay rfl (by decide) q1717 q1718 q1719 (by rw [hx]; rfl) (by rw [hx]; rfl) dX0_lay_7 rfl rfl (Nat.le_of_ble_eq_true rfl)) (h) ?_
  intro g1 hc1 hm1
  obtain ⟨t1, t2, t3⟩ := hE g1 hc1
  have t2n : xown g1 out ≠ 0 := by rw [t2]; decide
  refine xw_i2l (pc := 10) dX0_lay_10 ?_
  refine xw_last (k := 0) (pc := 11) dX0_lay_11 (by simp [-List.getD_eq_getElem?_getD, xE_setI, xsz_setI, xsl_setI, xtag_setI, xown_setI, xlen_setI, xE_setR, xsz_setR, xsl_setR, xtag_setR, xown_setR, xlen_setR, xE_setW, xsz_setW, xsl_setW, xtag_setW, xown_setW, xlen_setW, xi_setR, xi_setW, xr_setI, xr_setW, xww_setI, xww_setR, xi_setI, xr_setR, xww_setW, xE_new, xsz_new, xsl_new, hx, t1, t3, t2n]) (by first | assumption | (simp [-List.getD_eq_getElem?_getD, xE_setI, xsz_setI, xsl_setI, xtag_setI, xown_setI, xlen_setI, xE_setR, xsz_setR, xsl_setR, xtag_setR, xown_setR, xlen_setR, xE_setW, xsz_setW, xsl_setW, xtag_setW, xown_setW, xlen_setW, xi_setR, xi_setW, xr_setI, xr_setW, xww_setI, xww_setR, xi_setI, xr_setR, xww_setW, xE_new, xsz_new, xsl_new, hx, t1, t3, t2n]; done) | (simp [-List.getD_eq_getElem?_getD, xE_setI, xsz_setI, xsl_setI, xtag_setI, xown_setI, xlen_setI, xE_setR, xsz_setR, xsl_setR, xtag_setR, xown_setR, xlen_setR, xE_setW, xsz_setW, xsl_setW, xtag_setW, xown_setW, xlen_setW, xi_setR, xi_setW, xr_setI, xr_setW, xww_setI, xww_setR, xi_setI, xr_setR, xww_setW, xE_new, xsz_new, xsl_new, hx, t1, t3, t2n]; assumption)) rfl (by rw [t3]; decide) ?_
  refine xw_goto (pc := 12) 27 dX0_lay_12 rfl ?_
  refine xw_iconst (v := nI 0) (pc := 27) dX0_lay_27 rfl ?_
  refine xw_iret (pc := 28) .int dX0_lay_28 rfl ?_ 
  exact ⟨rfl, g1, hc1, rfl⟩

theorem SP_X0_lay_23 {d : Nat} {g : xG} {x out : Nat} {p0 p1 p2 : Int32} {E : xG → Prop} (hx : xtag g x = 1) (h : XM M_X1_lay (d + 90) [.ref x, .int p0, .int p1, .int p2] g (xErr 23 E)) : XM M_X0_lay (d + 91) [.ref x, .int p0, .int p1, .int p2, .ref out] g (xVal (.int (nI 1)) E) := by
  refine xm_of (by decide +kernel) (Nat.le_of_ble_eq_true rfl) ?_
  show XW _ _ 0 [(0, _), (1, _), (2, _), (3, _), (4, _)] [] _ _
  refine xw_aload (pc := 0) dX0_lay_0 4 rfl ?_
  refine xw_iconst (v := nI 0) (pc := 2) dX0_lay_2 rfl ?_
  refine xw_aload_n (pc := 3) dX0_lay_3 0 rfl ?_
  refine xw_iload_n (pc := 4) dX0_lay_4 1 rfl ?_
  refine xw_iload_n (pc := 5) dX0_lay_5 2 rfl ?_
  refine xw_iload_n (pc := 6) dX0_lay_6 3 rfl ?_
  refine xw_call (pc := 7) (xr_V (as := [_, _, _]) ok_X1_lay rfl (by decide) q1717 q1718 q1719 (by rw [hx]; rfl) (by rw [hx]; rfl) dX0_lay_7 rfl rfl (Nat.le_of_ble_eq_true rfl)) (h) ?_
  intro rs g1 hc1 hm1
  obtain ⟨q, rfl, q1, q2, q3⟩ := hc1
  refine xx_catch [] (0, 12, 15, 13) [(0, 12, 19, 56), (0, 12, 23, 34)] rfl (fun z hz => by cases hz) (cvE (by decide) (by decide)) (by decide) q1032 (by rw [q1]; exact q1070) (by rw [q1]; decide) (by rw [q1]; decide) (by rw [q2]; decide) ?_
  refine xw_astore (l' := [(5, _), (0, _), (1, _), (2, _), (3, _), (4, _)]) (pc := 15) dX0_lay_15 (by decide) rfl ?_
  refine xw_iconst (v := nI 1) (pc := 17) dX0_lay_17 rfl ?_
  refine xw_iret (pc := 18) .int dX0_lay_18 rfl ?_ 
  exact ⟨rfl, q3⟩

theorem SP_X0_lay_25 {d : Nat} {g : xG} {x out : Nat} {p0 p1 p2 : Int32} {E : xG → Prop} (hx : xtag g x = 1) (h : XM M_X1_lay (d + 90) [.ref x, .int p0, .int p1, .int p2] g (xErr 25 E)) : XM M_X0_lay (d + 91) [.ref x, .int p0, .int p1, .int p2, .ref out] g (xVal (.int (nI 2)) E) := by
  refine xm_of (by decide +kernel) (Nat.le_of_ble_eq_true rfl) ?_
  show XW _ _ 0 [(0, _), (1, _), (2, _), (3, _), (4, _)] [] _ _
  refine xw_aload (pc := 0) dX0_lay_0 4 rfl ?_
  refine xw_iconst (v := nI 0) (pc := 2) dX0_lay_2 rfl ?_
  refine xw_aload_n (pc := 3) dX0_lay_3 0 rfl ?_
  refine xw_iload_n (pc := 4) dX0_lay_4 1 rfl ?_
  refine xw_iload_n (pc := 5) dX0_lay_5 2 rfl ?_
  refine xw_iload_n (pc := 6) dX0_lay_6 3 rfl ?_
  refine xw_call (pc := 7) (xr_V (as := [_, _, _]) ok_X1_lay rfl (by decide) q1717 q1718 q1719 (by rw [hx]; rfl) (by rw [hx]; rfl) dX0_lay_7 rfl rfl (Nat.le_of_ble_eq_true rfl)) (h) ?_
  intro rs g1 hc1 hm1
  obtain ⟨q, rfl, q1, q2, q3⟩ := hc1
  have hp : ∀ z ∈ [((0 : Nat), (12 : Nat), (15 : Nat), (13 : Nat))], xNot "PolicyNotationLaw" 7 (xcn (xtag g1 q)) z := by
    intro z hz
    rw [q1]
    have hz2 : z = (0, 12, 15, 13) := by simpa using hz
    subst hz2
    exact Or.inr ⟨by decide, _, q1032, by decide +kernel⟩
  refine xx_catch [(0, 12, 15, 13)] (0, 12, 19, 56) [(0, 12, 23, 34)] rfl hp (cvE (by decide) (by decide)) (by decide) q1486 (by rw [q1]; exact q1159) (by rw [q1]; decide) (by rw [q1]; decide) (by rw [q2]; decide) ?_
  refine xw_astore (l' := [(5, _), (0, _), (1, _), (2, _), (3, _), (4, _)]) (pc := 19) dX0_lay_19 (by decide) rfl ?_
  refine xw_iconst (v := nI 2) (pc := 21) dX0_lay_21 rfl ?_
  refine xw_iret (pc := 22) .int dX0_lay_22 rfl ?_ 
  exact ⟨rfl, q3⟩

theorem SP_X0_lay_26 {d : Nat} {g : xG} {x out : Nat} {p0 p1 p2 : Int32} {E : xG → Prop} (hx : xtag g x = 1) (h : XM M_X1_lay (d + 90) [.ref x, .int p0, .int p1, .int p2] g (xErr 26 E)) : XM M_X0_lay (d + 91) [.ref x, .int p0, .int p1, .int p2, .ref out] g (xVal (.int (nI 3)) E) := by
  refine xm_of (by decide +kernel) (Nat.le_of_ble_eq_true rfl) ?_
  show XW _ _ 0 [(0, _), (1, _), (2, _), (3, _), (4, _)] [] _ _
  refine xw_aload (pc := 0) dX0_lay_0 4 rfl ?_
  refine xw_iconst (v := nI 0) (pc := 2) dX0_lay_2 rfl ?_
  refine xw_aload_n (pc := 3) dX0_lay_3 0 rfl ?_
  refine xw_iload_n (pc := 4) dX0_lay_4 1 rfl ?_
  refine xw_iload_n (pc := 5) dX0_lay_5 2 rfl ?_
  refine xw_iload_n (pc := 6) dX0_lay_6 3 rfl ?_
  refine xw_call (pc := 7) (xr_V (as := [_, _, _]) ok_X1_lay rfl (by decide) q1717 q1718 q1719 (by rw [hx]; rfl) (by rw [hx]; rfl) dX0_lay_7 rfl rfl (Nat.le_of_ble_eq_true rfl)) (h) ?_
  intro rs g1 hc1 hm1
  obtain ⟨q, rfl, q1, q2, q3⟩ := hc1
  have hp : ∀ z ∈ [((0 : Nat), (12 : Nat), (15 : Nat), (13 : Nat)), ((0 : Nat), (12 : Nat), (19 : Nat), (56 : Nat))], xNot "PolicyNotationLaw" 7 (xcn (xtag g1 q)) z := by
    intro z hz
    rw [q1]
    have hz2 : z = (0, 12, 15, 13) ∨ z = (0, 12, 19, 56) := by simpa using hz
    rcases hz2 with rfl | rfl
    · exact Or.inr ⟨by decide, _, q1032, by decide +kernel⟩
    · exact Or.inr ⟨by decide, _, q1486, by decide +kernel⟩
  refine xx_catch [(0, 12, 15, 13), (0, 12, 19, 56)] (0, 12, 23, 34) [] rfl hp (cvE (by decide) (by decide)) (by decide) q1257 (by rw [q1]; exact q1312) (by rw [q1]; decide) (by rw [q1]; decide) (by rw [q2]; decide) ?_
  refine xw_astore (l' := [(5, _), (0, _), (1, _), (2, _), (3, _), (4, _)]) (pc := 23) dX0_lay_23 (by decide) rfl ?_
  refine xw_iconst (v := nI 3) (pc := 25) dX0_lay_25 rfl ?_
  refine xw_iret (pc := 26) .int dX0_lay_26 rfl ?_ 
  exact ⟨rfl, q3⟩

theorem SP_X0_takeSheet_ok {d : Nat} {g : xG} {x out : Nat} {p0 : Int32} {E : xG → Prop} (hx : xtag g x = 1) (hE : ∀ g', E g' → xtag g' out = 106 ∧ xown g' out = 4 ∧ xlen g' out = 1) {v : Int32} (h : XM M_X1_takeSheet (d + 90) [.ref x, .int p0] g (xVal (.int v) E)) : XM M_X0_takeSheet (d + 91) [.ref x, .int p0, .ref out] g (xVal (.int (nI 0)) (fun g' => ∃ g1, E g1 ∧ g' = xsetW g1 out 0 (v.toInt64.toUInt64))) := by
  refine xm_of (by decide +kernel) (Nat.le_of_ble_eq_true rfl) ?_
  show XW _ _ 0 [(0, _), (1, _), (2, _)] [] _ _
  refine xw_aload_n (pc := 0) dX0_takeSheet_0 2 rfl ?_
  refine xw_iconst (v := nI 0) (pc := 1) dX0_takeSheet_1 rfl ?_
  refine xw_aload_n (pc := 2) dX0_takeSheet_2 0 rfl ?_
  refine xw_iload_n (pc := 3) dX0_takeSheet_3 1 rfl ?_
  refine xw_callF (pc := 4) (xr_V (as := [_]) ok_X1_takeSheet rfl (by decide) q1742 q1743 q1744 (by rw [hx]; rfl) (by rw [hx]; rfl) dX0_takeSheet_4 rfl rfl (Nat.le_of_ble_eq_true rfl)) (h) ?_
  intro g1 hc1 hm1
  obtain ⟨t1, t2, t3⟩ := hE g1 hc1
  have t2n : xown g1 out ≠ 0 := by rw [t2]; decide
  refine xw_i2l (pc := 7) dX0_takeSheet_7 ?_
  refine xw_last (k := 0) (pc := 8) dX0_takeSheet_8 (by simp [-List.getD_eq_getElem?_getD, xE_setI, xsz_setI, xsl_setI, xtag_setI, xown_setI, xlen_setI, xE_setR, xsz_setR, xsl_setR, xtag_setR, xown_setR, xlen_setR, xE_setW, xsz_setW, xsl_setW, xtag_setW, xown_setW, xlen_setW, xi_setR, xi_setW, xr_setI, xr_setW, xww_setI, xww_setR, xi_setI, xr_setR, xww_setW, xE_new, xsz_new, xsl_new, hx, t1, t3, t2n]) (by first | assumption | (simp [-List.getD_eq_getElem?_getD, xE_setI, xsz_setI, xsl_setI, xtag_setI, xown_setI, xlen_setI, xE_setR, xsz_setR, xsl_setR, xtag_setR, xown_setR, xlen_setR, xE_setW, xsz_setW, xsl_setW, xtag_setW, xown_setW, xlen_setW, xi_setR, xi_setW, xr_setI, xr_setW, xww_setI, xww_setR, xi_setI, xr_setR, xww_setW, xE_new, xsz_new, xsl_new, hx, t1, t3, t2n]; done) | (simp [-List.getD_eq_getElem?_getD, xE_setI, xsz_setI, xsl_setI, xtag_setI, xown_setI, xlen_setI, xE_setR, xsz_setR, xsl_setR, xtag_setR, xown_setR, xlen_setR, xE_setW, xsz_setW, xsl_setW, xtag_setW, xown_setW, xlen_setW, xi_setR, xi_setW, xr_setI, xr_setW, xww_setI, xww_setR, xi_setI, xr_setR, xww_setW, xE_new, xsz_new, xsl_new, hx, t1, t3, t2n]; assumption)) rfl (by rw [t3]; decide) ?_
  refine xw_goto (pc := 9) 18 dX0_takeSheet_9 rfl ?_
  refine xw_iconst (v := nI 0) (pc := 18) dX0_takeSheet_18 rfl ?_
  refine xw_iret (pc := 19) .int dX0_takeSheet_19 rfl ?_ 
  exact ⟨rfl, g1, hc1, rfl⟩

theorem SP_X0_takeSheet_23 {d : Nat} {g : xG} {x out : Nat} {p0 : Int32} {E : xG → Prop} (hx : xtag g x = 1) (h : XM M_X1_takeSheet (d + 90) [.ref x, .int p0] g (xErr 23 E)) : XM M_X0_takeSheet (d + 91) [.ref x, .int p0, .ref out] g (xVal (.int (nI 1)) E) := by
  refine xm_of (by decide +kernel) (Nat.le_of_ble_eq_true rfl) ?_
  show XW _ _ 0 [(0, _), (1, _), (2, _)] [] _ _
  refine xw_aload_n (pc := 0) dX0_takeSheet_0 2 rfl ?_
  refine xw_iconst (v := nI 0) (pc := 1) dX0_takeSheet_1 rfl ?_
  refine xw_aload_n (pc := 2) dX0_takeSheet_2 0 rfl ?_
  refine xw_iload_n (pc := 3) dX0_takeSheet_3 1 rfl ?_
  refine xw_call (pc := 4) (xr_V (as := [_]) ok_X1_takeSheet rfl (by decide) q1742 q1743 q1744 (by rw [hx]; rfl) (by rw [hx]; rfl) dX0_takeSheet_4 rfl rfl (Nat.le_of_ble_eq_true rfl)) (h) ?_
  intro rs g1 hc1 hm1
  obtain ⟨q, rfl, q1, q2, q3⟩ := hc1
  refine xx_catch [] (0, 9, 12, 13) [(0, 9, 15, 34)] rfl (fun z hz => by cases hz) (cvE (by decide) (by decide)) (by decide) q1032 (by rw [q1]; exact q1070) (by rw [q1]; decide) (by rw [q1]; decide) (by rw [q2]; decide) ?_
  refine xw_astore_n (l' := [(3, _), (0, _), (1, _), (2, _)]) (pc := 12) dX0_takeSheet_12 rfl (by decide) rfl ?_
  refine xw_iconst (v := nI 1) (pc := 13) dX0_takeSheet_13 rfl ?_
  refine xw_iret (pc := 14) .int dX0_takeSheet_14 rfl ?_ 
  exact ⟨rfl, q3⟩

theorem SP_X0_takeSheet_26 {d : Nat} {g : xG} {x out : Nat} {p0 : Int32} {E : xG → Prop} (hx : xtag g x = 1) (h : XM M_X1_takeSheet (d + 90) [.ref x, .int p0] g (xErr 26 E)) : XM M_X0_takeSheet (d + 91) [.ref x, .int p0, .ref out] g (xVal (.int (nI 2)) E) := by
  refine xm_of (by decide +kernel) (Nat.le_of_ble_eq_true rfl) ?_
  show XW _ _ 0 [(0, _), (1, _), (2, _)] [] _ _
  refine xw_aload_n (pc := 0) dX0_takeSheet_0 2 rfl ?_
  refine xw_iconst (v := nI 0) (pc := 1) dX0_takeSheet_1 rfl ?_
  refine xw_aload_n (pc := 2) dX0_takeSheet_2 0 rfl ?_
  refine xw_iload_n (pc := 3) dX0_takeSheet_3 1 rfl ?_
  refine xw_call (pc := 4) (xr_V (as := [_]) ok_X1_takeSheet rfl (by decide) q1742 q1743 q1744 (by rw [hx]; rfl) (by rw [hx]; rfl) dX0_takeSheet_4 rfl rfl (Nat.le_of_ble_eq_true rfl)) (h) ?_
  intro rs g1 hc1 hm1
  obtain ⟨q, rfl, q1, q2, q3⟩ := hc1
  have hp : ∀ z ∈ [((0 : Nat), (9 : Nat), (12 : Nat), (13 : Nat))], xNot "PolicyNotationLaw" 4 (xcn (xtag g1 q)) z := by
    intro z hz
    rw [q1]
    have hz2 : z = (0, 9, 12, 13) := by simpa using hz
    subst hz2
    exact Or.inr ⟨by decide, _, q1032, by decide +kernel⟩
  refine xx_catch [(0, 9, 12, 13)] (0, 9, 15, 34) [] rfl hp (cvE (by decide) (by decide)) (by decide) q1257 (by rw [q1]; exact q1312) (by rw [q1]; decide) (by rw [q1]; decide) (by rw [q2]; decide) ?_
  refine xw_astore_n (l' := [(3, _), (0, _), (1, _), (2, _)]) (pc := 15) dX0_takeSheet_15 rfl (by decide) rfl ?_
  refine xw_iconst (v := nI 2) (pc := 16) dX0_takeSheet_16 rfl ?_
  refine xw_iret (pc := 17) .int dX0_takeSheet_17 rfl ?_ 
  exact ⟨rfl, q3⟩

theorem SP_X0_keepRow_ok {d : Nat} {g : xG} {x out : Nat} {p0 : Int32} {E : xG → Prop} (hx : xtag g x = 1) (hE : ∀ g', E g' → xtag g' out = 106 ∧ xown g' out = 4 ∧ xlen g' out = 1) {v : Int32} (h : XM M_X1_keepRow (d + 90) [.ref x, .int p0] g (xVal (.int v) E)) : XM M_X0_keepRow (d + 91) [.ref x, .int p0, .ref out] g (xVal (.int (nI 0)) (fun g' => ∃ g1, E g1 ∧ g' = xsetW g1 out 0 (v.toInt64.toUInt64))) := by
  refine xm_of (by decide +kernel) (Nat.le_of_ble_eq_true rfl) ?_
  show XW _ _ 0 [(0, _), (1, _), (2, _)] [] _ _
  refine xw_aload_n (pc := 0) dX0_keepRow_0 2 rfl ?_
  refine xw_iconst (v := nI 0) (pc := 1) dX0_keepRow_1 rfl ?_
  refine xw_aload_n (pc := 2) dX0_keepRow_2 0 rfl ?_
  refine xw_iload_n (pc := 3) dX0_keepRow_3 1 rfl ?_
  refine xw_callF (pc := 4) (xr_V (as := [_]) ok_X1_keepRow rfl (by decide) q1749 q1750 q1751 (by rw [hx]; rfl) (by rw [hx]; rfl) dX0_keepRow_4 rfl rfl (Nat.le_of_ble_eq_true rfl)) (h) ?_
  intro g1 hc1 hm1
  obtain ⟨t1, t2, t3⟩ := hE g1 hc1
  have t2n : xown g1 out ≠ 0 := by rw [t2]; decide
  refine xw_i2l (pc := 7) dX0_keepRow_7 ?_
  refine xw_last (k := 0) (pc := 8) dX0_keepRow_8 (by simp [-List.getD_eq_getElem?_getD, xE_setI, xsz_setI, xsl_setI, xtag_setI, xown_setI, xlen_setI, xE_setR, xsz_setR, xsl_setR, xtag_setR, xown_setR, xlen_setR, xE_setW, xsz_setW, xsl_setW, xtag_setW, xown_setW, xlen_setW, xi_setR, xi_setW, xr_setI, xr_setW, xww_setI, xww_setR, xi_setI, xr_setR, xww_setW, xE_new, xsz_new, xsl_new, hx, t1, t3, t2n]) (by first | assumption | (simp [-List.getD_eq_getElem?_getD, xE_setI, xsz_setI, xsl_setI, xtag_setI, xown_setI, xlen_setI, xE_setR, xsz_setR, xsl_setR, xtag_setR, xown_setR, xlen_setR, xE_setW, xsz_setW, xsl_setW, xtag_setW, xown_setW, xlen_setW, xi_setR, xi_setW, xr_setI, xr_setW, xww_setI, xww_setR, xi_setI, xr_setR, xww_setW, xE_new, xsz_new, xsl_new, hx, t1, t3, t2n]; done) | (simp [-List.getD_eq_getElem?_getD, xE_setI, xsz_setI, xsl_setI, xtag_setI, xown_setI, xlen_setI, xE_setR, xsz_setR, xsl_setR, xtag_setR, xown_setR, xlen_setR, xE_setW, xsz_setW, xsl_setW, xtag_setW, xown_setW, xlen_setW, xi_setR, xi_setW, xr_setI, xr_setW, xww_setI, xww_setR, xi_setI, xr_setR, xww_setW, xE_new, xsz_new, xsl_new, hx, t1, t3, t2n]; assumption)) rfl (by rw [t3]; decide) ?_
  refine xw_goto (pc := 9) 15 dX0_keepRow_9 rfl ?_
  refine xw_iconst (v := nI 0) (pc := 15) dX0_keepRow_15 rfl ?_
  refine xw_iret (pc := 16) .int dX0_keepRow_16 rfl ?_ 
  exact ⟨rfl, g1, hc1, rfl⟩

theorem SP_X0_keepRow_23 {d : Nat} {g : xG} {x out : Nat} {p0 : Int32} {E : xG → Prop} (hx : xtag g x = 1) (h : XM M_X1_keepRow (d + 90) [.ref x, .int p0] g (xErr 23 E)) : XM M_X0_keepRow (d + 91) [.ref x, .int p0, .ref out] g (xVal (.int (nI 1)) E) := by
  refine xm_of (by decide +kernel) (Nat.le_of_ble_eq_true rfl) ?_
  show XW _ _ 0 [(0, _), (1, _), (2, _)] [] _ _
  refine xw_aload_n (pc := 0) dX0_keepRow_0 2 rfl ?_
  refine xw_iconst (v := nI 0) (pc := 1) dX0_keepRow_1 rfl ?_
  refine xw_aload_n (pc := 2) dX0_keepRow_2 0 rfl ?_
  refine xw_iload_n (pc := 3) dX0_keepRow_3 1 rfl ?_
  refine xw_call (pc := 4) (xr_V (as := [_]) ok_X1_keepRow rfl (by decide) q1749 q1750 q1751 (by rw [hx]; rfl) (by rw [hx]; rfl) dX0_keepRow_4 rfl rfl (Nat.le_of_ble_eq_true rfl)) (h) ?_
  intro rs g1 hc1 hm1
  obtain ⟨q, rfl, q1, q2, q3⟩ := hc1
  refine xx_catch [] (0, 9, 12, 13) [] rfl (fun z hz => by cases hz) (cvE (by decide) (by decide)) (by decide) q1032 (by rw [q1]; exact q1070) (by rw [q1]; decide) (by rw [q1]; decide) (by rw [q2]; decide) ?_
  refine xw_astore_n (l' := [(3, _), (0, _), (1, _), (2, _)]) (pc := 12) dX0_keepRow_12 rfl (by decide) rfl ?_
  refine xw_iconst (v := nI 1) (pc := 13) dX0_keepRow_13 rfl ?_
  refine xw_iret (pc := 14) .int dX0_keepRow_14 rfl ?_ 
  exact ⟨rfl, q3⟩

theorem SP_X0_copyRow_ok {d : Nat} {g : xG} {x out : Nat} {p0 p1 p2 : Int32} {E : xG → Prop} (hx : xtag g x = 1) (hE : ∀ g', E g' → xtag g' out = 106 ∧ xown g' out = 4 ∧ xlen g' out = 1) {v : Int32} (h : XM M_X1_copyRow (d + 90) [.ref x, .int p0, .int p1, .int p2] g (xVal (.int v) E)) : XM M_X0_copyRow (d + 91) [.ref x, .int p0, .int p1, .int p2, .ref out] g (xVal (.int (nI 0)) (fun g' => ∃ g1, E g1 ∧ g' = xsetW g1 out 0 (v.toInt64.toUInt64))) := by
  refine xm_of (by decide +kernel) (Nat.le_of_ble_eq_true rfl) ?_
  show XW _ _ 0 [(0, _), (1, _), (2, _), (3, _), (4, _)] [] _ _
  refine xw_aload (pc := 0) dX0_copyRow_0 4 rfl ?_
  refine xw_iconst (v := nI 0) (pc := 2) dX0_copyRow_2 rfl ?_
  refine xw_aload_n (pc := 3) dX0_copyRow_3 0 rfl ?_
  refine xw_iload_n (pc := 4) dX0_copyRow_4 1 rfl ?_
  refine xw_iload_n (pc := 5) dX0_copyRow_5 2 rfl ?_
  refine xw_iload_n (pc := 6) dX0_copyRow_6 3 rfl ?_
  refine xw_callF (pc := 7) (xr_V (as := [_, _, _]) ok_X1_copyRow rfl (by decide) q1760 q1761 q1762 (by rw [hx]; rfl) (by rw [hx]; rfl) dX0_copyRow_7 rfl rfl (Nat.le_of_ble_eq_true rfl)) (h) ?_
  intro g1 hc1 hm1
  obtain ⟨t1, t2, t3⟩ := hE g1 hc1
  have t2n : xown g1 out ≠ 0 := by rw [t2]; decide
  refine xw_i2l (pc := 10) dX0_copyRow_10 ?_
  refine xw_last (k := 0) (pc := 11) dX0_copyRow_11 (by simp [-List.getD_eq_getElem?_getD, xE_setI, xsz_setI, xsl_setI, xtag_setI, xown_setI, xlen_setI, xE_setR, xsz_setR, xsl_setR, xtag_setR, xown_setR, xlen_setR, xE_setW, xsz_setW, xsl_setW, xtag_setW, xown_setW, xlen_setW, xi_setR, xi_setW, xr_setI, xr_setW, xww_setI, xww_setR, xi_setI, xr_setR, xww_setW, xE_new, xsz_new, xsl_new, hx, t1, t3, t2n]) (by first | assumption | (simp [-List.getD_eq_getElem?_getD, xE_setI, xsz_setI, xsl_setI, xtag_setI, xown_setI, xlen_setI, xE_setR, xsz_setR, xsl_setR, xtag_setR, xown_setR, xlen_setR, xE_setW, xsz_setW, xsl_setW, xtag_setW, xown_setW, xlen_setW, xi_setR, xi_setW, xr_setI, xr_setW, xww_setI, xww_setR, xi_setI, xr_setR, xww_setW, xE_new, xsz_new, xsl_new, hx, t1, t3, t2n]; done) | (simp [-List.getD_eq_getElem?_getD, xE_setI, xsz_setI, xsl_setI, xtag_setI, xown_setI, xlen_setI, xE_setR, xsz_setR, xsl_setR, xtag_setR, xown_setR, xlen_setR, xE_setW, xsz_setW, xsl_setW, xtag_setW, xown_setW, xlen_setW, xi_setR, xi_setW, xr_setI, xr_setW, xww_setI, xww_setR, xi_setI, xr_setR, xww_setW, xE_new, xsz_new, xsl_new, hx, t1, t3, t2n]; assumption)) rfl (by rw [t3]; decide) ?_
  refine xw_goto (pc := 12) 27 dX0_copyRow_12 rfl ?_
  refine xw_iconst (v := nI 0) (pc := 27) dX0_copyRow_27 rfl ?_
  refine xw_iret (pc := 28) .int dX0_copyRow_28 rfl ?_ 
  exact ⟨rfl, g1, hc1, rfl⟩

theorem SP_X0_copyRow_23 {d : Nat} {g : xG} {x out : Nat} {p0 p1 p2 : Int32} {E : xG → Prop} (hx : xtag g x = 1) (h : XM M_X1_copyRow (d + 90) [.ref x, .int p0, .int p1, .int p2] g (xErr 23 E)) : XM M_X0_copyRow (d + 91) [.ref x, .int p0, .int p1, .int p2, .ref out] g (xVal (.int (nI 1)) E) := by
  refine xm_of (by decide +kernel) (Nat.le_of_ble_eq_true rfl) ?_
  show XW _ _ 0 [(0, _), (1, _), (2, _), (3, _), (4, _)] [] _ _
  refine xw_aload (pc := 0) dX0_copyRow_0 4 rfl ?_
  refine xw_iconst (v := nI 0) (pc := 2) dX0_copyRow_2 rfl ?_
  refine xw_aload_n (pc := 3) dX0_copyRow_3 0 rfl ?_
  refine xw_iload_n (pc := 4) dX0_copyRow_4 1 rfl ?_
  refine xw_iload_n (pc := 5) dX0_copyRow_5 2 rfl ?_
  refine xw_iload_n (pc := 6) dX0_copyRow_6 3 rfl ?_
  refine xw_call (pc := 7) (xr_V (as := [_, _, _]) ok_X1_copyRow rfl (by decide) q1760 q1761 q1762 (by rw [hx]; rfl) (by rw [hx]; rfl) dX0_copyRow_7 rfl rfl (Nat.le_of_ble_eq_true rfl)) (h) ?_
  intro rs g1 hc1 hm1
  obtain ⟨q, rfl, q1, q2, q3⟩ := hc1
  refine xx_catch [] (0, 12, 15, 13) [(0, 12, 19, 21), (0, 12, 23, 15)] rfl (fun z hz => by cases hz) (cvE (by decide) (by decide)) (by decide) q1032 (by rw [q1]; exact q1070) (by rw [q1]; decide) (by rw [q1]; decide) (by rw [q2]; decide) ?_
  refine xw_astore (l' := [(5, _), (0, _), (1, _), (2, _), (3, _), (4, _)]) (pc := 15) dX0_copyRow_15 (by decide) rfl ?_
  refine xw_iconst (v := nI 1) (pc := 17) dX0_copyRow_17 rfl ?_
  refine xw_iret (pc := 18) .int dX0_copyRow_18 rfl ?_ 
  exact ⟨rfl, q3⟩

theorem SP_X0_copyRow_22 {d : Nat} {g : xG} {x out : Nat} {p0 p1 p2 : Int32} {E : xG → Prop} (hx : xtag g x = 1) (h : XM M_X1_copyRow (d + 90) [.ref x, .int p0, .int p1, .int p2] g (xErr 22 E)) : XM M_X0_copyRow (d + 91) [.ref x, .int p0, .int p1, .int p2, .ref out] g (xVal (.int (nI 2)) E) := by
  refine xm_of (by decide +kernel) (Nat.le_of_ble_eq_true rfl) ?_
  show XW _ _ 0 [(0, _), (1, _), (2, _), (3, _), (4, _)] [] _ _
  refine xw_aload (pc := 0) dX0_copyRow_0 4 rfl ?_
  refine xw_iconst (v := nI 0) (pc := 2) dX0_copyRow_2 rfl ?_
  refine xw_aload_n (pc := 3) dX0_copyRow_3 0 rfl ?_
  refine xw_iload_n (pc := 4) dX0_copyRow_4 1 rfl ?_
  refine xw_iload_n (pc := 5) dX0_copyRow_5 2 rfl ?_
  refine xw_iload_n (pc := 6) dX0_copyRow_6 3 rfl ?_
  refine xw_call (pc := 7) (xr_V (as := [_, _, _]) ok_X1_copyRow rfl (by decide) q1760 q1761 q1762 (by rw [hx]; rfl) (by rw [hx]; rfl) dX0_copyRow_7 rfl rfl (Nat.le_of_ble_eq_true rfl)) (h) ?_
  intro rs g1 hc1 hm1
  obtain ⟨q, rfl, q1, q2, q3⟩ := hc1
  have hp : ∀ z ∈ [((0 : Nat), (12 : Nat), (15 : Nat), (13 : Nat))], xNot "PolicyNotationLaw" 7 (xcn (xtag g1 q)) z := by
    intro z hz
    rw [q1]
    have hz2 : z = (0, 12, 15, 13) := by simpa using hz
    subst hz2
    exact Or.inr ⟨by decide, _, q1032, by decide +kernel⟩
  refine xx_catch [(0, 12, 15, 13)] (0, 12, 19, 21) [(0, 12, 23, 15)] rfl hp (cvE (by decide) (by decide)) (by decide) q1175 (by rw [q1]; exact q175) (by rw [q1]; decide) (by rw [q1]; decide) (by rw [q2]; decide) ?_
  refine xw_astore (l' := [(5, _), (0, _), (1, _), (2, _), (3, _), (4, _)]) (pc := 19) dX0_copyRow_19 (by decide) rfl ?_
  refine xw_iconst (v := nI 2) (pc := 21) dX0_copyRow_21 rfl ?_
  refine xw_iret (pc := 22) .int dX0_copyRow_22 rfl ?_ 
  exact ⟨rfl, q3⟩

theorem SP_X0_copyRow_24 {d : Nat} {g : xG} {x out : Nat} {p0 p1 p2 : Int32} {E : xG → Prop} (hx : xtag g x = 1) (h : XM M_X1_copyRow (d + 90) [.ref x, .int p0, .int p1, .int p2] g (xErr 24 E)) : XM M_X0_copyRow (d + 91) [.ref x, .int p0, .int p1, .int p2, .ref out] g (xVal (.int (nI 3)) E) := by
  refine xm_of (by decide +kernel) (Nat.le_of_ble_eq_true rfl) ?_
  show XW _ _ 0 [(0, _), (1, _), (2, _), (3, _), (4, _)] [] _ _
  refine xw_aload (pc := 0) dX0_copyRow_0 4 rfl ?_
  refine xw_iconst (v := nI 0) (pc := 2) dX0_copyRow_2 rfl ?_
  refine xw_aload_n (pc := 3) dX0_copyRow_3 0 rfl ?_
  refine xw_iload_n (pc := 4) dX0_copyRow_4 1 rfl ?_
  refine xw_iload_n (pc := 5) dX0_copyRow_5 2 rfl ?_
  refine xw_iload_n (pc := 6) dX0_copyRow_6 3 rfl ?_
  refine xw_call (pc := 7) (xr_V (as := [_, _, _]) ok_X1_copyRow rfl (by decide) q1760 q1761 q1762 (by rw [hx]; rfl) (by rw [hx]; rfl) dX0_copyRow_7 rfl rfl (Nat.le_of_ble_eq_true rfl)) (h) ?_
  intro rs g1 hc1 hm1
  obtain ⟨q, rfl, q1, q2, q3⟩ := hc1
  have hp : ∀ z ∈ [((0 : Nat), (12 : Nat), (15 : Nat), (13 : Nat)), ((0 : Nat), (12 : Nat), (19 : Nat), (21 : Nat))], xNot "PolicyNotationLaw" 7 (xcn (xtag g1 q)) z := by
    intro z hz
    rw [q1]
    have hz2 : z = (0, 12, 15, 13) ∨ z = (0, 12, 19, 21) := by simpa using hz
    rcases hz2 with rfl | rfl
    · exact Or.inr ⟨by decide, _, q1032, by decide +kernel⟩
    · exact Or.inr ⟨by decide, _, q1175, by decide +kernel⟩
  refine xx_catch [(0, 12, 15, 13), (0, 12, 19, 21)] (0, 12, 23, 15) [] rfl hp (cvE (by decide) (by decide)) (by decide) q1051 (by rw [q1]; exact q1094) (by rw [q1]; decide) (by rw [q1]; decide) (by rw [q2]; decide) ?_
  refine xw_astore (l' := [(5, _), (0, _), (1, _), (2, _), (3, _), (4, _)]) (pc := 23) dX0_copyRow_23 (by decide) rfl ?_
  refine xw_iconst (v := nI 3) (pc := 25) dX0_copyRow_25 rfl ?_
  refine xw_iret (pc := 26) .int dX0_copyRow_26 rfl ?_ 
  exact ⟨rfl, q3⟩

theorem SP_X0_element_ok {d : Nat} {g : xG} {x out : Nat} {p0 p1 : Int32} {E : xG → Prop} (hx : xtag g x = 1) (hE : ∀ g', E g' → xtag g' out = 106 ∧ xown g' out = 4 ∧ xlen g' out = 1) {v : Int32} (h : XM M_X1_element (d + 90) [.ref x, .int p0, .int p1] g (xVal (.int v) E)) : XM M_X0_element (d + 91) [.ref x, .int p0, .int p1, .ref out] g (xVal (.int (nI 0)) (fun g' => ∃ g1, E g1 ∧ g' = xsetW g1 out 0 (v.toInt64.toUInt64))) := by
  refine xm_of (by decide +kernel) (Nat.le_of_ble_eq_true rfl) ?_
  show XW _ _ 0 [(0, _), (1, _), (2, _), (3, _)] [] _ _
  refine xw_aload_n (pc := 0) dX0_element_0 3 rfl ?_
  refine xw_iconst (v := nI 0) (pc := 1) dX0_element_1 rfl ?_
  refine xw_aload_n (pc := 2) dX0_element_2 0 rfl ?_
  refine xw_iload_n (pc := 3) dX0_element_3 1 rfl ?_
  refine xw_iload_n (pc := 4) dX0_element_4 2 rfl ?_
  refine xw_callF (pc := 5) (xr_V (as := [_, _]) ok_X1_element rfl (by decide) q1780 q1781 q1782 (by rw [hx]; rfl) (by rw [hx]; rfl) dX0_element_5 rfl rfl (Nat.le_of_ble_eq_true rfl)) (h) ?_
  intro g1 hc1 hm1
  obtain ⟨t1, t2, t3⟩ := hE g1 hc1
  have t2n : xown g1 out ≠ 0 := by rw [t2]; decide
  refine xw_i2l (pc := 8) dX0_element_8 ?_
  refine xw_last (k := 0) (pc := 9) dX0_element_9 (by simp [-List.getD_eq_getElem?_getD, xE_setI, xsz_setI, xsl_setI, xtag_setI, xown_setI, xlen_setI, xE_setR, xsz_setR, xsl_setR, xtag_setR, xown_setR, xlen_setR, xE_setW, xsz_setW, xsl_setW, xtag_setW, xown_setW, xlen_setW, xi_setR, xi_setW, xr_setI, xr_setW, xww_setI, xww_setR, xi_setI, xr_setR, xww_setW, xE_new, xsz_new, xsl_new, hx, t1, t3, t2n]) (by first | assumption | (simp [-List.getD_eq_getElem?_getD, xE_setI, xsz_setI, xsl_setI, xtag_setI, xown_setI, xlen_setI, xE_setR, xsz_setR, xsl_setR, xtag_setR, xown_setR, xlen_setR, xE_setW, xsz_setW, xsl_setW, xtag_setW, xown_setW, xlen_setW, xi_setR, xi_setW, xr_setI, xr_setW, xww_setI, xww_setR, xi_setI, xr_setR, xww_setW, xE_new, xsz_new, xsl_new, hx, t1, t3, t2n]; done) | (simp [-List.getD_eq_getElem?_getD, xE_setI, xsz_setI, xsl_setI, xtag_setI, xown_setI, xlen_setI, xE_setR, xsz_setR, xsl_setR, xtag_setR, xown_setR, xlen_setR, xE_setW, xsz_setW, xsl_setW, xtag_setW, xown_setW, xlen_setW, xi_setR, xi_setW, xr_setI, xr_setW, xww_setI, xww_setR, xi_setI, xr_setR, xww_setW, xE_new, xsz_new, xsl_new, hx, t1, t3, t2n]; assumption)) rfl (by rw [t3]; decide) ?_
  refine xw_goto (pc := 10) 25 dX0_element_10 rfl ?_
  refine xw_iconst (v := nI 0) (pc := 25) dX0_element_25 rfl ?_
  refine xw_iret (pc := 26) .int dX0_element_26 rfl ?_ 
  exact ⟨rfl, g1, hc1, rfl⟩

theorem SP_X0_element_23 {d : Nat} {g : xG} {x out : Nat} {p0 p1 : Int32} {E : xG → Prop} (hx : xtag g x = 1) (h : XM M_X1_element (d + 90) [.ref x, .int p0, .int p1] g (xErr 23 E)) : XM M_X0_element (d + 91) [.ref x, .int p0, .int p1, .ref out] g (xVal (.int (nI 1)) E) := by
  refine xm_of (by decide +kernel) (Nat.le_of_ble_eq_true rfl) ?_
  show XW _ _ 0 [(0, _), (1, _), (2, _), (3, _)] [] _ _
  refine xw_aload_n (pc := 0) dX0_element_0 3 rfl ?_
  refine xw_iconst (v := nI 0) (pc := 1) dX0_element_1 rfl ?_
  refine xw_aload_n (pc := 2) dX0_element_2 0 rfl ?_
  refine xw_iload_n (pc := 3) dX0_element_3 1 rfl ?_
  refine xw_iload_n (pc := 4) dX0_element_4 2 rfl ?_
  refine xw_call (pc := 5) (xr_V (as := [_, _]) ok_X1_element rfl (by decide) q1780 q1781 q1782 (by rw [hx]; rfl) (by rw [hx]; rfl) dX0_element_5 rfl rfl (Nat.le_of_ble_eq_true rfl)) (h) ?_
  intro rs g1 hc1 hm1
  obtain ⟨q, rfl, q1, q2, q3⟩ := hc1
  refine xx_catch [] (0, 10, 13, 13) [(0, 10, 17, 15), (0, 10, 21, 56)] rfl (fun z hz => by cases hz) (cvE (by decide) (by decide)) (by decide) q1032 (by rw [q1]; exact q1070) (by rw [q1]; decide) (by rw [q1]; decide) (by rw [q2]; decide) ?_
  refine xw_astore (l' := [(4, _), (0, _), (1, _), (2, _), (3, _)]) (pc := 13) dX0_element_13 (by decide) rfl ?_
  refine xw_iconst (v := nI 1) (pc := 15) dX0_element_15 rfl ?_
  refine xw_iret (pc := 16) .int dX0_element_16 rfl ?_ 
  exact ⟨rfl, q3⟩

theorem SP_X0_element_24 {d : Nat} {g : xG} {x out : Nat} {p0 p1 : Int32} {E : xG → Prop} (hx : xtag g x = 1) (h : XM M_X1_element (d + 90) [.ref x, .int p0, .int p1] g (xErr 24 E)) : XM M_X0_element (d + 91) [.ref x, .int p0, .int p1, .ref out] g (xVal (.int (nI 2)) E) := by
  refine xm_of (by decide +kernel) (Nat.le_of_ble_eq_true rfl) ?_
  show XW _ _ 0 [(0, _), (1, _), (2, _), (3, _)] [] _ _
  refine xw_aload_n (pc := 0) dX0_element_0 3 rfl ?_
  refine xw_iconst (v := nI 0) (pc := 1) dX0_element_1 rfl ?_
  refine xw_aload_n (pc := 2) dX0_element_2 0 rfl ?_
  refine xw_iload_n (pc := 3) dX0_element_3 1 rfl ?_
  refine xw_iload_n (pc := 4) dX0_element_4 2 rfl ?_
  refine xw_call (pc := 5) (xr_V (as := [_, _]) ok_X1_element rfl (by decide) q1780 q1781 q1782 (by rw [hx]; rfl) (by rw [hx]; rfl) dX0_element_5 rfl rfl (Nat.le_of_ble_eq_true rfl)) (h) ?_
  intro rs g1 hc1 hm1
  obtain ⟨q, rfl, q1, q2, q3⟩ := hc1
  have hp : ∀ z ∈ [((0 : Nat), (10 : Nat), (13 : Nat), (13 : Nat))], xNot "PolicyNotationLaw" 5 (xcn (xtag g1 q)) z := by
    intro z hz
    rw [q1]
    have hz2 : z = (0, 10, 13, 13) := by simpa using hz
    subst hz2
    exact Or.inr ⟨by decide, _, q1032, by decide +kernel⟩
  refine xx_catch [(0, 10, 13, 13)] (0, 10, 17, 15) [(0, 10, 21, 56)] rfl hp (cvE (by decide) (by decide)) (by decide) q1051 (by rw [q1]; exact q1094) (by rw [q1]; decide) (by rw [q1]; decide) (by rw [q2]; decide) ?_
  refine xw_astore (l' := [(4, _), (0, _), (1, _), (2, _), (3, _)]) (pc := 17) dX0_element_17 (by decide) rfl ?_
  refine xw_iconst (v := nI 2) (pc := 19) dX0_element_19 rfl ?_
  refine xw_iret (pc := 20) .int dX0_element_20 rfl ?_ 
  exact ⟨rfl, q3⟩

theorem SP_X0_element_25 {d : Nat} {g : xG} {x out : Nat} {p0 p1 : Int32} {E : xG → Prop} (hx : xtag g x = 1) (h : XM M_X1_element (d + 90) [.ref x, .int p0, .int p1] g (xErr 25 E)) : XM M_X0_element (d + 91) [.ref x, .int p0, .int p1, .ref out] g (xVal (.int (nI 3)) E) := by
  refine xm_of (by decide +kernel) (Nat.le_of_ble_eq_true rfl) ?_
  show XW _ _ 0 [(0, _), (1, _), (2, _), (3, _)] [] _ _
  refine xw_aload_n (pc := 0) dX0_element_0 3 rfl ?_
  refine xw_iconst (v := nI 0) (pc := 1) dX0_element_1 rfl ?_
  refine xw_aload_n (pc := 2) dX0_element_2 0 rfl ?_
  refine xw_iload_n (pc := 3) dX0_element_3 1 rfl ?_
  refine xw_iload_n (pc := 4) dX0_element_4 2 rfl ?_
  refine xw_call (pc := 5) (xr_V (as := [_, _]) ok_X1_element rfl (by decide) q1780 q1781 q1782 (by rw [hx]; rfl) (by rw [hx]; rfl) dX0_element_5 rfl rfl (Nat.le_of_ble_eq_true rfl)) (h) ?_
  intro rs g1 hc1 hm1
  obtain ⟨q, rfl, q1, q2, q3⟩ := hc1
  have hp : ∀ z ∈ [((0 : Nat), (10 : Nat), (13 : Nat), (13 : Nat)), ((0 : Nat), (10 : Nat), (17 : Nat), (15 : Nat))], xNot "PolicyNotationLaw" 5 (xcn (xtag g1 q)) z := by
    intro z hz
    rw [q1]
    have hz2 : z = (0, 10, 13, 13) ∨ z = (0, 10, 17, 15) := by simpa using hz
    rcases hz2 with rfl | rfl
    · exact Or.inr ⟨by decide, _, q1032, by decide +kernel⟩
    · exact Or.inr ⟨by decide, _, q1051, by decide +kernel⟩
  refine xx_catch [(0, 10, 13, 13), (0, 10, 17, 15)] (0, 10, 21, 56) [] rfl hp (cvE (by decide) (by decide)) (by decide) q1486 (by rw [q1]; exact q1159) (by rw [q1]; decide) (by rw [q1]; decide) (by rw [q2]; decide) ?_
  refine xw_astore (l' := [(4, _), (0, _), (1, _), (2, _), (3, _)]) (pc := 21) dX0_element_21 (by decide) rfl ?_
  refine xw_iconst (v := nI 3) (pc := 23) dX0_element_23 rfl ?_
  refine xw_iret (pc := 24) .int dX0_element_24 rfl ?_ 
  exact ⟨rfl, q3⟩

theorem SP_X0_total_ok {d : Nat} {g : xG} {x out : Nat} {p0 : Int32} {E : xG → Prop} (hx : xtag g x = 1) (hE : ∀ g', E g' → xtag g' out = 107 ∧ xown g' out = 4 ∧ xlen g' out = 1) {v : UInt64} (h : XM M_X1_total (d + 90) [.ref x, .int p0] g (xVal (.double v) E)) : XM M_X0_total (d + 91) [.ref x, .int p0, .ref out] g (xVal (.int (nI 0)) (fun g' => ∃ g1, E g1 ∧ g' = xsetW g1 out 0 (v))) := by
  refine xm_of (by decide +kernel) (Nat.le_of_ble_eq_true rfl) ?_
  show XW _ _ 0 [(0, _), (1, _), (2, _)] [] _ _
  refine xw_aload_n (pc := 0) dX0_total_0 2 rfl ?_
  refine xw_iconst (v := nI 0) (pc := 1) dX0_total_1 rfl ?_
  refine xw_aload_n (pc := 2) dX0_total_2 0 rfl ?_
  refine xw_iload_n (pc := 3) dX0_total_3 1 rfl ?_
  refine xw_callF (pc := 4) (xr_V (as := [_]) ok_X1_total rfl (by decide) q1797 q1798 q1799 (by rw [hx]; rfl) (by rw [hx]; rfl) dX0_total_4 rfl rfl (Nat.le_of_ble_eq_true rfl)) (h) ?_
  intro g1 hc1 hm1
  obtain ⟨t1, t2, t3⟩ := hE g1 hc1
  have t2n : xown g1 out ≠ 0 := by rw [t2]; decide
  refine xw_dast (k := 0) (pc := 7) dX0_total_7 (by simp [-List.getD_eq_getElem?_getD, xE_setI, xsz_setI, xsl_setI, xtag_setI, xown_setI, xlen_setI, xE_setR, xsz_setR, xsl_setR, xtag_setR, xown_setR, xlen_setR, xE_setW, xsz_setW, xsl_setW, xtag_setW, xown_setW, xlen_setW, xi_setR, xi_setW, xr_setI, xr_setW, xww_setI, xww_setR, xi_setI, xr_setR, xww_setW, xE_new, xsz_new, xsl_new, hx, t1, t3, t2n]) (by first | assumption | (simp [-List.getD_eq_getElem?_getD, xE_setI, xsz_setI, xsl_setI, xtag_setI, xown_setI, xlen_setI, xE_setR, xsz_setR, xsl_setR, xtag_setR, xown_setR, xlen_setR, xE_setW, xsz_setW, xsl_setW, xtag_setW, xown_setW, xlen_setW, xi_setR, xi_setW, xr_setI, xr_setW, xww_setI, xww_setR, xi_setI, xr_setR, xww_setW, xE_new, xsz_new, xsl_new, hx, t1, t3, t2n]; done) | (simp [-List.getD_eq_getElem?_getD, xE_setI, xsz_setI, xsl_setI, xtag_setI, xown_setI, xlen_setI, xE_setR, xsz_setR, xsl_setR, xtag_setR, xown_setR, xlen_setR, xE_setW, xsz_setW, xsl_setW, xtag_setW, xown_setW, xlen_setW, xi_setR, xi_setW, xr_setI, xr_setW, xww_setI, xww_setR, xi_setI, xr_setR, xww_setW, xE_new, xsz_new, xsl_new, hx, t1, t3, t2n]; assumption)) rfl (by rw [t3]; decide) ?_
  refine xw_goto (pc := 8) 17 dX0_total_8 rfl ?_
  refine xw_iconst (v := nI 0) (pc := 17) dX0_total_17 rfl ?_
  refine xw_iret (pc := 18) .int dX0_total_18 rfl ?_ 
  exact ⟨rfl, g1, hc1, rfl⟩

theorem SP_X0_total_23 {d : Nat} {g : xG} {x out : Nat} {p0 : Int32} {E : xG → Prop} (hx : xtag g x = 1) (h : XM M_X1_total (d + 90) [.ref x, .int p0] g (xErr 23 E)) : XM M_X0_total (d + 91) [.ref x, .int p0, .ref out] g (xVal (.int (nI 1)) E) := by
  refine xm_of (by decide +kernel) (Nat.le_of_ble_eq_true rfl) ?_
  show XW _ _ 0 [(0, _), (1, _), (2, _)] [] _ _
  refine xw_aload_n (pc := 0) dX0_total_0 2 rfl ?_
  refine xw_iconst (v := nI 0) (pc := 1) dX0_total_1 rfl ?_
  refine xw_aload_n (pc := 2) dX0_total_2 0 rfl ?_
  refine xw_iload_n (pc := 3) dX0_total_3 1 rfl ?_
  refine xw_call (pc := 4) (xr_V (as := [_]) ok_X1_total rfl (by decide) q1797 q1798 q1799 (by rw [hx]; rfl) (by rw [hx]; rfl) dX0_total_4 rfl rfl (Nat.le_of_ble_eq_true rfl)) (h) ?_
  intro rs g1 hc1 hm1
  obtain ⟨q, rfl, q1, q2, q3⟩ := hc1
  refine xx_catch [] (0, 8, 11, 13) [(0, 8, 14, 15)] rfl (fun z hz => by cases hz) (cvE (by decide) (by decide)) (by decide) q1032 (by rw [q1]; exact q1070) (by rw [q1]; decide) (by rw [q1]; decide) (by rw [q2]; decide) ?_
  refine xw_astore_n (l' := [(3, _), (0, _), (1, _), (2, _)]) (pc := 11) dX0_total_11 rfl (by decide) rfl ?_
  refine xw_iconst (v := nI 1) (pc := 12) dX0_total_12 rfl ?_
  refine xw_iret (pc := 13) .int dX0_total_13 rfl ?_ 
  exact ⟨rfl, q3⟩

theorem SP_X0_total_24 {d : Nat} {g : xG} {x out : Nat} {p0 : Int32} {E : xG → Prop} (hx : xtag g x = 1) (h : XM M_X1_total (d + 90) [.ref x, .int p0] g (xErr 24 E)) : XM M_X0_total (d + 91) [.ref x, .int p0, .ref out] g (xVal (.int (nI 2)) E) := by
  refine xm_of (by decide +kernel) (Nat.le_of_ble_eq_true rfl) ?_
  show XW _ _ 0 [(0, _), (1, _), (2, _)] [] _ _
  refine xw_aload_n (pc := 0) dX0_total_0 2 rfl ?_
  refine xw_iconst (v := nI 0) (pc := 1) dX0_total_1 rfl ?_
  refine xw_aload_n (pc := 2) dX0_total_2 0 rfl ?_
  refine xw_iload_n (pc := 3) dX0_total_3 1 rfl ?_
  refine xw_call (pc := 4) (xr_V (as := [_]) ok_X1_total rfl (by decide) q1797 q1798 q1799 (by rw [hx]; rfl) (by rw [hx]; rfl) dX0_total_4 rfl rfl (Nat.le_of_ble_eq_true rfl)) (h) ?_
  intro rs g1 hc1 hm1
  obtain ⟨q, rfl, q1, q2, q3⟩ := hc1
  have hp : ∀ z ∈ [((0 : Nat), (8 : Nat), (11 : Nat), (13 : Nat))], xNot "PolicyNotationLaw" 4 (xcn (xtag g1 q)) z := by
    intro z hz
    rw [q1]
    have hz2 : z = (0, 8, 11, 13) := by simpa using hz
    subst hz2
    exact Or.inr ⟨by decide, _, q1032, by decide +kernel⟩
  refine xx_catch [(0, 8, 11, 13)] (0, 8, 14, 15) [] rfl hp (cvE (by decide) (by decide)) (by decide) q1051 (by rw [q1]; exact q1094) (by rw [q1]; decide) (by rw [q1]; decide) (by rw [q2]; decide) ?_
  refine xw_astore_n (l' := [(3, _), (0, _), (1, _), (2, _)]) (pc := 14) dX0_total_14 rfl (by decide) rfl ?_
  refine xw_iconst (v := nI 2) (pc := 15) dX0_total_15 rfl ?_
  refine xw_iret (pc := 16) .int dX0_total_16 rfl ?_ 
  exact ⟨rfl, q3⟩

theorem SP_X0_append_ok {d : Nat} {g : xG} {x out : Nat} {p0 : Int32} {E : xG → Prop} (hx : xtag g x = 1) (hE : ∀ g', E g' → xtag g' out = 106 ∧ xown g' out = 4 ∧ xlen g' out = 1) {v : Int32} (h : XM M_X1_append (d + 90) [.ref x, .int p0] g (xVal (.int v) E)) : XM M_X0_append (d + 91) [.ref x, .int p0, .ref out] g (xVal (.int (nI 0)) (fun g' => ∃ g1, E g1 ∧ g' = xsetW g1 out 0 (v.toInt64.toUInt64))) := by
  refine xm_of (by decide +kernel) (Nat.le_of_ble_eq_true rfl) ?_
  show XW _ _ 0 [(0, _), (1, _), (2, _)] [] _ _
  refine xw_aload_n (pc := 0) dX0_append_0 2 rfl ?_
  refine xw_iconst (v := nI 0) (pc := 1) dX0_append_1 rfl ?_
  refine xw_aload_n (pc := 2) dX0_append_2 0 rfl ?_
  refine xw_iload_n (pc := 3) dX0_append_3 1 rfl ?_
  refine xw_callF (pc := 4) (xr_V (as := [_]) ok_X1_append rfl (by decide) q1805 q1806 q1807 (by rw [hx]; rfl) (by rw [hx]; rfl) dX0_append_4 rfl rfl (Nat.le_of_ble_eq_true rfl)) (h) ?_
  intro g1 hc1 hm1
  obtain ⟨t1, t2, t3⟩ := hE g1 hc1
  have t2n : xown g1 out ≠ 0 := by rw [t2]; decide
  refine xw_i2l (pc := 7) dX0_append_7 ?_
  refine xw_last (k := 0) (pc := 8) dX0_append_8 (by simp [-List.getD_eq_getElem?_getD, xE_setI, xsz_setI, xsl_setI, xtag_setI, xown_setI, xlen_setI, xE_setR, xsz_setR, xsl_setR, xtag_setR, xown_setR, xlen_setR, xE_setW, xsz_setW, xsl_setW, xtag_setW, xown_setW, xlen_setW, xi_setR, xi_setW, xr_setI, xr_setW, xww_setI, xww_setR, xi_setI, xr_setR, xww_setW, xE_new, xsz_new, xsl_new, hx, t1, t3, t2n]) (by first | assumption | (simp [-List.getD_eq_getElem?_getD, xE_setI, xsz_setI, xsl_setI, xtag_setI, xown_setI, xlen_setI, xE_setR, xsz_setR, xsl_setR, xtag_setR, xown_setR, xlen_setR, xE_setW, xsz_setW, xsl_setW, xtag_setW, xown_setW, xlen_setW, xi_setR, xi_setW, xr_setI, xr_setW, xww_setI, xww_setR, xi_setI, xr_setR, xww_setW, xE_new, xsz_new, xsl_new, hx, t1, t3, t2n]; done) | (simp [-List.getD_eq_getElem?_getD, xE_setI, xsz_setI, xsl_setI, xtag_setI, xown_setI, xlen_setI, xE_setR, xsz_setR, xsl_setR, xtag_setR, xown_setR, xlen_setR, xE_setW, xsz_setW, xsl_setW, xtag_setW, xown_setW, xlen_setW, xi_setR, xi_setW, xr_setI, xr_setW, xww_setI, xww_setR, xi_setI, xr_setR, xww_setW, xE_new, xsz_new, xsl_new, hx, t1, t3, t2n]; assumption)) rfl (by rw [t3]; decide) ?_
  refine xw_goto (pc := 9) 15 dX0_append_9 rfl ?_
  refine xw_iconst (v := nI 0) (pc := 15) dX0_append_15 rfl ?_
  refine xw_iret (pc := 16) .int dX0_append_16 rfl ?_ 
  exact ⟨rfl, g1, hc1, rfl⟩

theorem SP_X0_append_24 {d : Nat} {g : xG} {x out : Nat} {p0 : Int32} {E : xG → Prop} (hx : xtag g x = 1) (h : XM M_X1_append (d + 90) [.ref x, .int p0] g (xErr 24 E)) : XM M_X0_append (d + 91) [.ref x, .int p0, .ref out] g (xVal (.int (nI 1)) E) := by
  refine xm_of (by decide +kernel) (Nat.le_of_ble_eq_true rfl) ?_
  show XW _ _ 0 [(0, _), (1, _), (2, _)] [] _ _
  refine xw_aload_n (pc := 0) dX0_append_0 2 rfl ?_
  refine xw_iconst (v := nI 0) (pc := 1) dX0_append_1 rfl ?_
  refine xw_aload_n (pc := 2) dX0_append_2 0 rfl ?_
  refine xw_iload_n (pc := 3) dX0_append_3 1 rfl ?_
  refine xw_call (pc := 4) (xr_V (as := [_]) ok_X1_append rfl (by decide) q1805 q1806 q1807 (by rw [hx]; rfl) (by rw [hx]; rfl) dX0_append_4 rfl rfl (Nat.le_of_ble_eq_true rfl)) (h) ?_
  intro rs g1 hc1 hm1
  obtain ⟨q, rfl, q1, q2, q3⟩ := hc1
  refine xx_catch [] (0, 9, 12, 15) [] rfl (fun z hz => by cases hz) (cvE (by decide) (by decide)) (by decide) q1051 (by rw [q1]; exact q1094) (by rw [q1]; decide) (by rw [q1]; decide) (by rw [q2]; decide) ?_
  refine xw_astore_n (l' := [(3, _), (0, _), (1, _), (2, _)]) (pc := 12) dX0_append_12 rfl (by decide) rfl ?_
  refine xw_iconst (v := nI 1) (pc := 13) dX0_append_13 rfl ?_
  refine xw_iret (pc := 14) .int dX0_append_14 rfl ?_ 
  exact ⟨rfl, q3⟩

theorem SP_X0_read_ok {d : Nat} {g : xG} {x out : Nat} {E : xG → Prop} (hx : xtag g x = 1) (hE : ∀ g', E g' → xtag g' out = 106 ∧ xown g' out = 4 ∧ xlen g' out = 1) {v : Int32} (h : XM M_X1_read (d + 90) [.ref x] g (xVal (.int v) E)) : XM M_X0_read (d + 91) [.ref x, .ref out] g (xVal (.int (nI 0)) (fun g' => ∃ g1, E g1 ∧ g' = xsetW g1 out 0 (v.toInt64.toUInt64))) := by
  refine xm_of (by decide +kernel) (Nat.le_of_ble_eq_true rfl) ?_
  show XW _ _ 0 [(0, _), (1, _)] [] _ _
  refine xw_aload_n (pc := 0) dX0_read_0 1 rfl ?_
  refine xw_iconst (v := nI 0) (pc := 1) dX0_read_1 rfl ?_
  refine xw_aload_n (pc := 2) dX0_read_2 0 rfl ?_
  refine xw_callF (pc := 3) (xr_VX (as := []) ok_X1_read rfl (by decide) q1833 q1834 q1835 (by rw [hx]; rfl) (by rw [hx]; rfl) dX0_read_3 rfl rfl (Nat.le_of_ble_eq_true rfl)) (h) ?_
  intro g1 hc1 hm1
  obtain ⟨t1, t2, t3⟩ := hE g1 hc1
  have t2n : xown g1 out ≠ 0 := by rw [t2]; decide
  refine xw_i2l (pc := 6) dX0_read_6 ?_
  refine xw_last (k := 0) (pc := 7) dX0_read_7 (by simp [-List.getD_eq_getElem?_getD, xE_setI, xsz_setI, xsl_setI, xtag_setI, xown_setI, xlen_setI, xE_setR, xsz_setR, xsl_setR, xtag_setR, xown_setR, xlen_setR, xE_setW, xsz_setW, xsl_setW, xtag_setW, xown_setW, xlen_setW, xi_setR, xi_setW, xr_setI, xr_setW, xww_setI, xww_setR, xi_setI, xr_setR, xww_setW, xE_new, xsz_new, xsl_new, hx, t1, t3, t2n]) (by first | assumption | (simp [-List.getD_eq_getElem?_getD, xE_setI, xsz_setI, xsl_setI, xtag_setI, xown_setI, xlen_setI, xE_setR, xsz_setR, xsl_setR, xtag_setR, xown_setR, xlen_setR, xE_setW, xsz_setW, xsl_setW, xtag_setW, xown_setW, xlen_setW, xi_setR, xi_setW, xr_setI, xr_setW, xww_setI, xww_setR, xi_setI, xr_setR, xww_setW, xE_new, xsz_new, xsl_new, hx, t1, t3, t2n]; done) | (simp [-List.getD_eq_getElem?_getD, xE_setI, xsz_setI, xsl_setI, xtag_setI, xown_setI, xlen_setI, xE_setR, xsz_setR, xsl_setR, xtag_setR, xown_setR, xlen_setR, xE_setW, xsz_setW, xsl_setW, xtag_setW, xown_setW, xlen_setW, xi_setR, xi_setW, xr_setI, xr_setW, xww_setI, xww_setR, xi_setI, xr_setR, xww_setW, xE_new, xsz_new, xsl_new, hx, t1, t3, t2n]; assumption)) rfl (by rw [t3]; decide) ?_
  refine xw_goto (pc := 8) 17 dX0_read_8 rfl ?_
  refine xw_iconst (v := nI 0) (pc := 17) dX0_read_17 rfl ?_
  refine xw_iret (pc := 18) .int dX0_read_18 rfl ?_ 
  exact ⟨rfl, g1, hc1, rfl⟩

theorem SP_X0_read_22 {d : Nat} {g : xG} {x out : Nat} {E : xG → Prop} (hx : xtag g x = 1) (h : XM M_X1_read (d + 90) [.ref x] g (xErr 22 E)) : XM M_X0_read (d + 91) [.ref x, .ref out] g (xVal (.int (nI 1)) E) := by
  refine xm_of (by decide +kernel) (Nat.le_of_ble_eq_true rfl) ?_
  show XW _ _ 0 [(0, _), (1, _)] [] _ _
  refine xw_aload_n (pc := 0) dX0_read_0 1 rfl ?_
  refine xw_iconst (v := nI 0) (pc := 1) dX0_read_1 rfl ?_
  refine xw_aload_n (pc := 2) dX0_read_2 0 rfl ?_
  refine xw_call (pc := 3) (xr_VX (as := []) ok_X1_read rfl (by decide) q1833 q1834 q1835 (by rw [hx]; rfl) (by rw [hx]; rfl) dX0_read_3 rfl rfl (Nat.le_of_ble_eq_true rfl)) (h) ?_
  intro rs g1 hc1 hm1
  obtain ⟨q, rfl, q1, q2, q3⟩ := hc1
  refine xx_catch [] (0, 8, 11, 21) [(0, 8, 14, 34)] rfl (fun z hz => by cases hz) (cvE (by decide) (by decide)) (by decide) q1175 (by rw [q1]; exact q175) (by rw [q1]; decide) (by rw [q1]; decide) (by rw [q2]; decide) ?_
  refine xw_astore_n (l' := [(2, _), (0, _), (1, _)]) (pc := 11) dX0_read_11 rfl (by decide) rfl ?_
  refine xw_iconst (v := nI 1) (pc := 12) dX0_read_12 rfl ?_
  refine xw_iret (pc := 13) .int dX0_read_13 rfl ?_ 
  exact ⟨rfl, q3⟩

theorem SP_X0_read_26 {d : Nat} {g : xG} {x out : Nat} {E : xG → Prop} (hx : xtag g x = 1) (h : XM M_X1_read (d + 90) [.ref x] g (xErr 26 E)) : XM M_X0_read (d + 91) [.ref x, .ref out] g (xVal (.int (nI 2)) E) := by
  refine xm_of (by decide +kernel) (Nat.le_of_ble_eq_true rfl) ?_
  show XW _ _ 0 [(0, _), (1, _)] [] _ _
  refine xw_aload_n (pc := 0) dX0_read_0 1 rfl ?_
  refine xw_iconst (v := nI 0) (pc := 1) dX0_read_1 rfl ?_
  refine xw_aload_n (pc := 2) dX0_read_2 0 rfl ?_
  refine xw_call (pc := 3) (xr_VX (as := []) ok_X1_read rfl (by decide) q1833 q1834 q1835 (by rw [hx]; rfl) (by rw [hx]; rfl) dX0_read_3 rfl rfl (Nat.le_of_ble_eq_true rfl)) (h) ?_
  intro rs g1 hc1 hm1
  obtain ⟨q, rfl, q1, q2, q3⟩ := hc1
  have hp : ∀ z ∈ [((0 : Nat), (8 : Nat), (11 : Nat), (21 : Nat))], xNot "PolicyNotationLaw" 3 (xcn (xtag g1 q)) z := by
    intro z hz
    rw [q1]
    have hz2 : z = (0, 8, 11, 21) := by simpa using hz
    subst hz2
    exact Or.inr ⟨by decide, _, q1175, by decide +kernel⟩
  refine xx_catch [(0, 8, 11, 21)] (0, 8, 14, 34) [] rfl hp (cvE (by decide) (by decide)) (by decide) q1257 (by rw [q1]; exact q1312) (by rw [q1]; decide) (by rw [q1]; decide) (by rw [q2]; decide) ?_
  refine xw_astore_n (l' := [(2, _), (0, _), (1, _)]) (pc := 14) dX0_read_14 rfl (by decide) rfl ?_
  refine xw_iconst (v := nI 2) (pc := 15) dX0_read_15 rfl ?_
  refine xw_iret (pc := 16) .int dX0_read_16 rfl ?_ 
  exact ⟨rfl, q3⟩

theorem SP_X0_faultPosition_ok {d : Nat} {g : xG} {x out : Nat} {E : xG → Prop} (hx : xtag g x = 1) (hE : ∀ g', E g' → xtag g' out = 106 ∧ xown g' out = 4 ∧ xlen g' out = 1) {v : Int32} (h : XM M_X1_faultPosition (d + 90) [.ref x] g (xVal (.int v) E)) : XM M_X0_faultPosition (d + 91) [.ref x, .ref out] g (xVal (.int (nI 0)) (fun g' => ∃ g1, E g1 ∧ g' = xsetW g1 out 0 (v.toInt64.toUInt64))) := by
  refine xm_of (by decide +kernel) (Nat.le_of_ble_eq_true rfl) ?_
  show XW _ _ 0 [(0, _), (1, _)] [] _ _
  refine xw_aload_n (pc := 0) dX0_faultPosition_0 1 rfl ?_
  refine xw_iconst (v := nI 0) (pc := 1) dX0_faultPosition_1 rfl ?_
  refine xw_aload_n (pc := 2) dX0_faultPosition_2 0 rfl ?_
  refine xw_callF (pc := 3) (xr_V (as := []) ok_X1_faultPosition rfl (by decide) q2134 q2135 q2136 (by rw [hx]; rfl) (by rw [hx]; rfl) dX0_faultPosition_3 rfl rfl (Nat.le_of_ble_eq_true rfl)) (h) ?_
  intro g1 hc1 hm1
  obtain ⟨t1, t2, t3⟩ := hE g1 hc1
  have t2n : xown g1 out ≠ 0 := by rw [t2]; decide
  refine xw_i2l (pc := 6) dX0_faultPosition_6 ?_
  refine xw_last (k := 0) (pc := 7) dX0_faultPosition_7 (by simp [-List.getD_eq_getElem?_getD, xE_setI, xsz_setI, xsl_setI, xtag_setI, xown_setI, xlen_setI, xE_setR, xsz_setR, xsl_setR, xtag_setR, xown_setR, xlen_setR, xE_setW, xsz_setW, xsl_setW, xtag_setW, xown_setW, xlen_setW, xi_setR, xi_setW, xr_setI, xr_setW, xww_setI, xww_setR, xi_setI, xr_setR, xww_setW, xE_new, xsz_new, xsl_new, hx, t1, t3, t2n]) (by first | assumption | (simp [-List.getD_eq_getElem?_getD, xE_setI, xsz_setI, xsl_setI, xtag_setI, xown_setI, xlen_setI, xE_setR, xsz_setR, xsl_setR, xtag_setR, xown_setR, xlen_setR, xE_setW, xsz_setW, xsl_setW, xtag_setW, xown_setW, xlen_setW, xi_setR, xi_setW, xr_setI, xr_setW, xww_setI, xww_setR, xi_setI, xr_setR, xww_setW, xE_new, xsz_new, xsl_new, hx, t1, t3, t2n]; done) | (simp [-List.getD_eq_getElem?_getD, xE_setI, xsz_setI, xsl_setI, xtag_setI, xown_setI, xlen_setI, xE_setR, xsz_setR, xsl_setR, xtag_setR, xown_setR, xlen_setR, xE_setW, xsz_setW, xsl_setW, xtag_setW, xown_setW, xlen_setW, xi_setR, xi_setW, xr_setI, xr_setW, xww_setI, xww_setR, xi_setI, xr_setR, xww_setW, xE_new, xsz_new, xsl_new, hx, t1, t3, t2n]; assumption)) rfl (by rw [t3]; decide) ?_
  refine xw_goto (pc := 8) 14 dX0_faultPosition_8 rfl ?_
  refine xw_iconst (v := nI 0) (pc := 14) dX0_faultPosition_14 rfl ?_
  refine xw_iret (pc := 15) .int dX0_faultPosition_15 rfl ?_ 
  exact ⟨rfl, g1, hc1, rfl⟩

theorem SP_X0_faultPosition_25 {d : Nat} {g : xG} {x out : Nat} {E : xG → Prop} (hx : xtag g x = 1) (h : XM M_X1_faultPosition (d + 90) [.ref x] g (xErr 25 E)) : XM M_X0_faultPosition (d + 91) [.ref x, .ref out] g (xVal (.int (nI 1)) E) := by
  refine xm_of (by decide +kernel) (Nat.le_of_ble_eq_true rfl) ?_
  show XW _ _ 0 [(0, _), (1, _)] [] _ _
  refine xw_aload_n (pc := 0) dX0_faultPosition_0 1 rfl ?_
  refine xw_iconst (v := nI 0) (pc := 1) dX0_faultPosition_1 rfl ?_
  refine xw_aload_n (pc := 2) dX0_faultPosition_2 0 rfl ?_
  refine xw_call (pc := 3) (xr_V (as := []) ok_X1_faultPosition rfl (by decide) q2134 q2135 q2136 (by rw [hx]; rfl) (by rw [hx]; rfl) dX0_faultPosition_3 rfl rfl (Nat.le_of_ble_eq_true rfl)) (h) ?_
  intro rs g1 hc1 hm1
  obtain ⟨q, rfl, q1, q2, q3⟩ := hc1
  refine xx_catch [] (0, 8, 11, 56) [] rfl (fun z hz => by cases hz) (cvE (by decide) (by decide)) (by decide) q1486 (by rw [q1]; exact q1159) (by rw [q1]; decide) (by rw [q1]; decide) (by rw [q2]; decide) ?_
  refine xw_astore_n (l' := [(2, _), (0, _), (1, _)]) (pc := 11) dX0_faultPosition_11 rfl (by decide) rfl ?_
  refine xw_iconst (v := nI 1) (pc := 12) dX0_faultPosition_12 rfl ?_
  refine xw_iret (pc := 13) .int dX0_faultPosition_13 rfl ?_ 
  exact ⟨rfl, q3⟩

theorem SP_X0_explain_ok {d : Nat} {g : xG} {x out : Nat} {p0 p1 p2 : Int32} {E : xG → Prop} (hx : xtag g x = 1) (hE : ∀ g', E g' → xtag g' out = 106 ∧ xown g' out = 4 ∧ xlen g' out = 1) {v : Int32} (h : XM M_X1_explain (d + 90) [.ref x, .int p0, .int p1, .int p2] g (xVal (.int v) E)) : XM M_X0_explain (d + 91) [.ref x, .int p0, .int p1, .int p2, .ref out] g (xVal (.int (nI 0)) (fun g' => ∃ g1, E g1 ∧ g' = xsetW g1 out 0 (v.toInt64.toUInt64))) := by
  refine xm_of (by decide +kernel) (Nat.le_of_ble_eq_true rfl) ?_
  show XW _ _ 0 [(0, _), (1, _), (2, _), (3, _), (4, _)] [] _ _
  refine xw_aload (pc := 0) dX0_explain_0 4 rfl ?_
  refine xw_iconst (v := nI 0) (pc := 2) dX0_explain_2 rfl ?_
  refine xw_aload_n (pc := 3) dX0_explain_3 0 rfl ?_
  refine xw_iload_n (pc := 4) dX0_explain_4 1 rfl ?_
  refine xw_iload_n (pc := 5) dX0_explain_5 2 rfl ?_
  refine xw_iload_n (pc := 6) dX0_explain_6 3 rfl ?_
  refine xw_callF (pc := 7) (xr_V (as := [_, _, _]) ok_X1_explain rfl (by decide) q2141 q2142 q2143 (by rw [hx]; rfl) (by rw [hx]; rfl) dX0_explain_7 rfl rfl (Nat.le_of_ble_eq_true rfl)) (h) ?_
  intro g1 hc1 hm1
  obtain ⟨t1, t2, t3⟩ := hE g1 hc1
  have t2n : xown g1 out ≠ 0 := by rw [t2]; decide
  refine xw_i2l (pc := 10) dX0_explain_10 ?_
  refine xw_last (k := 0) (pc := 11) dX0_explain_11 (by simp [-List.getD_eq_getElem?_getD, xE_setI, xsz_setI, xsl_setI, xtag_setI, xown_setI, xlen_setI, xE_setR, xsz_setR, xsl_setR, xtag_setR, xown_setR, xlen_setR, xE_setW, xsz_setW, xsl_setW, xtag_setW, xown_setW, xlen_setW, xi_setR, xi_setW, xr_setI, xr_setW, xww_setI, xww_setR, xi_setI, xr_setR, xww_setW, xE_new, xsz_new, xsl_new, hx, t1, t3, t2n]) (by first | assumption | (simp [-List.getD_eq_getElem?_getD, xE_setI, xsz_setI, xsl_setI, xtag_setI, xown_setI, xlen_setI, xE_setR, xsz_setR, xsl_setR, xtag_setR, xown_setR, xlen_setR, xE_setW, xsz_setW, xsl_setW, xtag_setW, xown_setW, xlen_setW, xi_setR, xi_setW, xr_setI, xr_setW, xww_setI, xww_setR, xi_setI, xr_setR, xww_setW, xE_new, xsz_new, xsl_new, hx, t1, t3, t2n]; done) | (simp [-List.getD_eq_getElem?_getD, xE_setI, xsz_setI, xsl_setI, xtag_setI, xown_setI, xlen_setI, xE_setR, xsz_setR, xsl_setR, xtag_setR, xown_setR, xlen_setR, xE_setW, xsz_setW, xsl_setW, xtag_setW, xown_setW, xlen_setW, xi_setR, xi_setW, xr_setI, xr_setW, xww_setI, xww_setR, xi_setI, xr_setR, xww_setW, xE_new, xsz_new, xsl_new, hx, t1, t3, t2n]; assumption)) rfl (by rw [t3]; decide) ?_
  refine xw_goto (pc := 12) 23 dX0_explain_12 rfl ?_
  refine xw_iconst (v := nI 0) (pc := 23) dX0_explain_23 rfl ?_
  refine xw_iret (pc := 24) .int dX0_explain_24 rfl ?_ 
  exact ⟨rfl, g1, hc1, rfl⟩

theorem SP_X0_explain_23 {d : Nat} {g : xG} {x out : Nat} {p0 p1 p2 : Int32} {E : xG → Prop} (hx : xtag g x = 1) (h : XM M_X1_explain (d + 90) [.ref x, .int p0, .int p1, .int p2] g (xErr 23 E)) : XM M_X0_explain (d + 91) [.ref x, .int p0, .int p1, .int p2, .ref out] g (xVal (.int (nI 1)) E) := by
  refine xm_of (by decide +kernel) (Nat.le_of_ble_eq_true rfl) ?_
  show XW _ _ 0 [(0, _), (1, _), (2, _), (3, _), (4, _)] [] _ _
  refine xw_aload (pc := 0) dX0_explain_0 4 rfl ?_
  refine xw_iconst (v := nI 0) (pc := 2) dX0_explain_2 rfl ?_
  refine xw_aload_n (pc := 3) dX0_explain_3 0 rfl ?_
  refine xw_iload_n (pc := 4) dX0_explain_4 1 rfl ?_
  refine xw_iload_n (pc := 5) dX0_explain_5 2 rfl ?_
  refine xw_iload_n (pc := 6) dX0_explain_6 3 rfl ?_
  refine xw_call (pc := 7) (xr_V (as := [_, _, _]) ok_X1_explain rfl (by decide) q2141 q2142 q2143 (by rw [hx]; rfl) (by rw [hx]; rfl) dX0_explain_7 rfl rfl (Nat.le_of_ble_eq_true rfl)) (h) ?_
  intro rs g1 hc1 hm1
  obtain ⟨q, rfl, q1, q2, q3⟩ := hc1
  refine xx_catch [] (0, 12, 15, 13) [(0, 12, 19, 21)] rfl (fun z hz => by cases hz) (cvE (by decide) (by decide)) (by decide) q1032 (by rw [q1]; exact q1070) (by rw [q1]; decide) (by rw [q1]; decide) (by rw [q2]; decide) ?_
  refine xw_astore (l' := [(5, _), (0, _), (1, _), (2, _), (3, _), (4, _)]) (pc := 15) dX0_explain_15 (by decide) rfl ?_
  refine xw_iconst (v := nI 1) (pc := 17) dX0_explain_17 rfl ?_
  refine xw_iret (pc := 18) .int dX0_explain_18 rfl ?_ 
  exact ⟨rfl, q3⟩

theorem SP_X0_explain_22 {d : Nat} {g : xG} {x out : Nat} {p0 p1 p2 : Int32} {E : xG → Prop} (hx : xtag g x = 1) (h : XM M_X1_explain (d + 90) [.ref x, .int p0, .int p1, .int p2] g (xErr 22 E)) : XM M_X0_explain (d + 91) [.ref x, .int p0, .int p1, .int p2, .ref out] g (xVal (.int (nI 2)) E) := by
  refine xm_of (by decide +kernel) (Nat.le_of_ble_eq_true rfl) ?_
  show XW _ _ 0 [(0, _), (1, _), (2, _), (3, _), (4, _)] [] _ _
  refine xw_aload (pc := 0) dX0_explain_0 4 rfl ?_
  refine xw_iconst (v := nI 0) (pc := 2) dX0_explain_2 rfl ?_
  refine xw_aload_n (pc := 3) dX0_explain_3 0 rfl ?_
  refine xw_iload_n (pc := 4) dX0_explain_4 1 rfl ?_
  refine xw_iload_n (pc := 5) dX0_explain_5 2 rfl ?_
  refine xw_iload_n (pc := 6) dX0_explain_6 3 rfl ?_
  refine xw_call (pc := 7) (xr_V (as := [_, _, _]) ok_X1_explain rfl (by decide) q2141 q2142 q2143 (by rw [hx]; rfl) (by rw [hx]; rfl) dX0_explain_7 rfl rfl (Nat.le_of_ble_eq_true rfl)) (h) ?_
  intro rs g1 hc1 hm1
  obtain ⟨q, rfl, q1, q2, q3⟩ := hc1
  have hp : ∀ z ∈ [((0 : Nat), (12 : Nat), (15 : Nat), (13 : Nat))], xNot "PolicyNotationLaw" 7 (xcn (xtag g1 q)) z := by
    intro z hz
    rw [q1]
    have hz2 : z = (0, 12, 15, 13) := by simpa using hz
    subst hz2
    exact Or.inr ⟨by decide, _, q1032, by decide +kernel⟩
  refine xx_catch [(0, 12, 15, 13)] (0, 12, 19, 21) [] rfl hp (cvE (by decide) (by decide)) (by decide) q1175 (by rw [q1]; exact q175) (by rw [q1]; decide) (by rw [q1]; decide) (by rw [q2]; decide) ?_
  refine xw_astore (l' := [(5, _), (0, _), (1, _), (2, _), (3, _), (4, _)]) (pc := 19) dX0_explain_19 (by decide) rfl ?_
  refine xw_iconst (v := nI 2) (pc := 21) dX0_explain_21 rfl ?_
  refine xw_iret (pc := 22) .int dX0_explain_22 rfl ?_ 
  exact ⟨rfl, q3⟩

theorem SP_X0_character_ok {d : Nat} {g : xG} {x out : Nat} {p0 : Int32} {E : xG → Prop} (hx : xtag g x = 1) (hE : ∀ g', E g' → xtag g' out = 106 ∧ xown g' out = 4 ∧ xlen g' out = 1) {v : Int32} (h : XM M_X1_character (d + 90) [.ref x, .int p0] g (xVal (.int v) E)) : XM M_X0_character (d + 91) [.ref x, .int p0, .ref out] g (xVal (.int (nI 0)) (fun g' => ∃ g1, E g1 ∧ g' = xsetW g1 out 0 (v.toInt64.toUInt64))) := by
  refine xm_of (by decide +kernel) (Nat.le_of_ble_eq_true rfl) ?_
  show XW _ _ 0 [(0, _), (1, _), (2, _)] [] _ _
  refine xw_aload_n (pc := 0) dX0_character_0 2 rfl ?_
  refine xw_iconst (v := nI 0) (pc := 1) dX0_character_1 rfl ?_
  refine xw_aload_n (pc := 2) dX0_character_2 0 rfl ?_
  refine xw_iload_n (pc := 3) dX0_character_3 1 rfl ?_
  refine xw_callF (pc := 4) (xr_V (as := [_]) ok_X1_character rfl (by decide) q2169 q2170 q2171 (by rw [hx]; rfl) (by rw [hx]; rfl) dX0_character_4 rfl rfl (Nat.le_of_ble_eq_true rfl)) (h) ?_
  intro g1 hc1 hm1
  obtain ⟨t1, t2, t3⟩ := hE g1 hc1
  have t2n : xown g1 out ≠ 0 := by rw [t2]; decide
  refine xw_i2l (pc := 7) dX0_character_7 ?_
  refine xw_last (k := 0) (pc := 8) dX0_character_8 (by simp [-List.getD_eq_getElem?_getD, xE_setI, xsz_setI, xsl_setI, xtag_setI, xown_setI, xlen_setI, xE_setR, xsz_setR, xsl_setR, xtag_setR, xown_setR, xlen_setR, xE_setW, xsz_setW, xsl_setW, xtag_setW, xown_setW, xlen_setW, xi_setR, xi_setW, xr_setI, xr_setW, xww_setI, xww_setR, xi_setI, xr_setR, xww_setW, xE_new, xsz_new, xsl_new, hx, t1, t3, t2n]) (by first | assumption | (simp [-List.getD_eq_getElem?_getD, xE_setI, xsz_setI, xsl_setI, xtag_setI, xown_setI, xlen_setI, xE_setR, xsz_setR, xsl_setR, xtag_setR, xown_setR, xlen_setR, xE_setW, xsz_setW, xsl_setW, xtag_setW, xown_setW, xlen_setW, xi_setR, xi_setW, xr_setI, xr_setW, xww_setI, xww_setR, xi_setI, xr_setR, xww_setW, xE_new, xsz_new, xsl_new, hx, t1, t3, t2n]; done) | (simp [-List.getD_eq_getElem?_getD, xE_setI, xsz_setI, xsl_setI, xtag_setI, xown_setI, xlen_setI, xE_setR, xsz_setR, xsl_setR, xtag_setR, xown_setR, xlen_setR, xE_setW, xsz_setW, xsl_setW, xtag_setW, xown_setW, xlen_setW, xi_setR, xi_setW, xr_setI, xr_setW, xww_setI, xww_setR, xi_setI, xr_setR, xww_setW, xE_new, xsz_new, xsl_new, hx, t1, t3, t2n]; assumption)) rfl (by rw [t3]; decide) ?_
  refine xw_goto (pc := 9) 15 dX0_character_9 rfl ?_
  refine xw_iconst (v := nI 0) (pc := 15) dX0_character_15 rfl ?_
  refine xw_iret (pc := 16) .int dX0_character_16 rfl ?_ 
  exact ⟨rfl, g1, hc1, rfl⟩

theorem SP_X0_character_25 {d : Nat} {g : xG} {x out : Nat} {p0 : Int32} {E : xG → Prop} (hx : xtag g x = 1) (h : XM M_X1_character (d + 90) [.ref x, .int p0] g (xErr 25 E)) : XM M_X0_character (d + 91) [.ref x, .int p0, .ref out] g (xVal (.int (nI 1)) E) := by
  refine xm_of (by decide +kernel) (Nat.le_of_ble_eq_true rfl) ?_
  show XW _ _ 0 [(0, _), (1, _), (2, _)] [] _ _
  refine xw_aload_n (pc := 0) dX0_character_0 2 rfl ?_
  refine xw_iconst (v := nI 0) (pc := 1) dX0_character_1 rfl ?_
  refine xw_aload_n (pc := 2) dX0_character_2 0 rfl ?_
  refine xw_iload_n (pc := 3) dX0_character_3 1 rfl ?_
  refine xw_call (pc := 4) (xr_V (as := [_]) ok_X1_character rfl (by decide) q2169 q2170 q2171 (by rw [hx]; rfl) (by rw [hx]; rfl) dX0_character_4 rfl rfl (Nat.le_of_ble_eq_true rfl)) (h) ?_
  intro rs g1 hc1 hm1
  obtain ⟨q, rfl, q1, q2, q3⟩ := hc1
  refine xx_catch [] (0, 9, 12, 56) [] rfl (fun z hz => by cases hz) (cvE (by decide) (by decide)) (by decide) q1486 (by rw [q1]; exact q1159) (by rw [q1]; decide) (by rw [q1]; decide) (by rw [q2]; decide) ?_
  refine xw_astore_n (l' := [(3, _), (0, _), (1, _), (2, _)]) (pc := 12) dX0_character_12 rfl (by decide) rfl ?_
  refine xw_iconst (v := nI 1) (pc := 13) dX0_character_13 rfl ?_
  refine xw_iret (pc := 14) .int dX0_character_14 rfl ?_ 
  exact ⟨rfl, q3⟩

theorem SP_X0_reason_ok {d : Nat} {g : xG} {x out : Nat} {p0 : Int32} {E : xG → Prop} (hx : xtag g x = 1) (hE : ∀ g', E g' → xtag g' out = 106 ∧ xown g' out = 4 ∧ xlen g' out = 1) {v : Int32} (h : XM M_X1_reason (d + 90) [.ref x, .int p0] g (xVal (.int v) E)) : XM M_X0_reason (d + 91) [.ref x, .int p0, .ref out] g (xVal (.int (nI 0)) (fun g' => ∃ g1, E g1 ∧ g' = xsetW g1 out 0 (v.toInt64.toUInt64))) := by
  refine xm_of (by decide +kernel) (Nat.le_of_ble_eq_true rfl) ?_
  show XW _ _ 0 [(0, _), (1, _), (2, _)] [] _ _
  refine xw_aload_n (pc := 0) dX0_reason_0 2 rfl ?_
  refine xw_iconst (v := nI 0) (pc := 1) dX0_reason_1 rfl ?_
  refine xw_aload_n (pc := 2) dX0_reason_2 0 rfl ?_
  refine xw_iload_n (pc := 3) dX0_reason_3 1 rfl ?_
  refine xw_callF (pc := 4) (xr_V (as := [_]) ok_X1_reason rfl (by decide) q2177 q2178 q2179 (by rw [hx]; rfl) (by rw [hx]; rfl) dX0_reason_4 rfl rfl (Nat.le_of_ble_eq_true rfl)) (h) ?_
  intro g1 hc1 hm1
  obtain ⟨t1, t2, t3⟩ := hE g1 hc1
  have t2n : xown g1 out ≠ 0 := by rw [t2]; decide
  refine xw_i2l (pc := 7) dX0_reason_7 ?_
  refine xw_last (k := 0) (pc := 8) dX0_reason_8 (by simp [-List.getD_eq_getElem?_getD, xE_setI, xsz_setI, xsl_setI, xtag_setI, xown_setI, xlen_setI, xE_setR, xsz_setR, xsl_setR, xtag_setR, xown_setR, xlen_setR, xE_setW, xsz_setW, xsl_setW, xtag_setW, xown_setW, xlen_setW, xi_setR, xi_setW, xr_setI, xr_setW, xww_setI, xww_setR, xi_setI, xr_setR, xww_setW, xE_new, xsz_new, xsl_new, hx, t1, t3, t2n]) (by first | assumption | (simp [-List.getD_eq_getElem?_getD, xE_setI, xsz_setI, xsl_setI, xtag_setI, xown_setI, xlen_setI, xE_setR, xsz_setR, xsl_setR, xtag_setR, xown_setR, xlen_setR, xE_setW, xsz_setW, xsl_setW, xtag_setW, xown_setW, xlen_setW, xi_setR, xi_setW, xr_setI, xr_setW, xww_setI, xww_setR, xi_setI, xr_setR, xww_setW, xE_new, xsz_new, xsl_new, hx, t1, t3, t2n]; done) | (simp [-List.getD_eq_getElem?_getD, xE_setI, xsz_setI, xsl_setI, xtag_setI, xown_setI, xlen_setI, xE_setR, xsz_setR, xsl_setR, xtag_setR, xown_setR, xlen_setR, xE_setW, xsz_setW, xsl_setW, xtag_setW, xown_setW, xlen_setW, xi_setR, xi_setW, xr_setI, xr_setW, xww_setI, xww_setR, xi_setI, xr_setR, xww_setW, xE_new, xsz_new, xsl_new, hx, t1, t3, t2n]; assumption)) rfl (by rw [t3]; decide) ?_
  refine xw_goto (pc := 9) 15 dX0_reason_9 rfl ?_
  refine xw_iconst (v := nI 0) (pc := 15) dX0_reason_15 rfl ?_
  refine xw_iret (pc := 16) .int dX0_reason_16 rfl ?_ 
  exact ⟨rfl, g1, hc1, rfl⟩

theorem SP_X0_reason_25 {d : Nat} {g : xG} {x out : Nat} {p0 : Int32} {E : xG → Prop} (hx : xtag g x = 1) (h : XM M_X1_reason (d + 90) [.ref x, .int p0] g (xErr 25 E)) : XM M_X0_reason (d + 91) [.ref x, .int p0, .ref out] g (xVal (.int (nI 1)) E) := by
  refine xm_of (by decide +kernel) (Nat.le_of_ble_eq_true rfl) ?_
  show XW _ _ 0 [(0, _), (1, _), (2, _)] [] _ _
  refine xw_aload_n (pc := 0) dX0_reason_0 2 rfl ?_
  refine xw_iconst (v := nI 0) (pc := 1) dX0_reason_1 rfl ?_
  refine xw_aload_n (pc := 2) dX0_reason_2 0 rfl ?_
  refine xw_iload_n (pc := 3) dX0_reason_3 1 rfl ?_
  refine xw_call (pc := 4) (xr_V (as := [_]) ok_X1_reason rfl (by decide) q2177 q2178 q2179 (by rw [hx]; rfl) (by rw [hx]; rfl) dX0_reason_4 rfl rfl (Nat.le_of_ble_eq_true rfl)) (h) ?_
  intro rs g1 hc1 hm1
  obtain ⟨q, rfl, q1, q2, q3⟩ := hc1
  refine xx_catch [] (0, 9, 12, 56) [] rfl (fun z hz => by cases hz) (cvE (by decide) (by decide)) (by decide) q1486 (by rw [q1]; exact q1159) (by rw [q1]; decide) (by rw [q1]; decide) (by rw [q2]; decide) ?_
  refine xw_astore_n (l' := [(3, _), (0, _), (1, _), (2, _)]) (pc := 12) dX0_reason_12 rfl (by decide) rfl ?_
  refine xw_iconst (v := nI 1) (pc := 13) dX0_reason_13 rfl ?_
  refine xw_iret (pc := 14) .int dX0_reason_14 rfl ?_ 
  exact ⟨rfl, q3⟩

theorem SP_X0_account_ok {d : Nat} {g : xG} {x out : Nat} {p0 : Int32} {E : xG → Prop} (hx : xtag g x = 1) (hE : ∀ g', E g' → xtag g' out = 106 ∧ xown g' out = 4 ∧ xlen g' out = 1) {v : Int32} (h : XM M_X1_account (d + 90) [.ref x, .int p0] g (xVal (.int v) E)) : XM M_X0_account (d + 91) [.ref x, .int p0, .ref out] g (xVal (.int (nI 0)) (fun g' => ∃ g1, E g1 ∧ g' = xsetW g1 out 0 (v.toInt64.toUInt64))) := by
  refine xm_of (by decide +kernel) (Nat.le_of_ble_eq_true rfl) ?_
  show XW _ _ 0 [(0, _), (1, _), (2, _)] [] _ _
  refine xw_aload_n (pc := 0) dX0_account_0 2 rfl ?_
  refine xw_iconst (v := nI 0) (pc := 1) dX0_account_1 rfl ?_
  refine xw_aload_n (pc := 2) dX0_account_2 0 rfl ?_
  refine xw_iload_n (pc := 3) dX0_account_3 1 rfl ?_
  refine xw_callF (pc := 4) (xr_V (as := [_]) ok_X1_account rfl (by decide) q2184 q2185 q2186 (by rw [hx]; rfl) (by rw [hx]; rfl) dX0_account_4 rfl rfl (Nat.le_of_ble_eq_true rfl)) (h) ?_
  intro g1 hc1 hm1
  obtain ⟨t1, t2, t3⟩ := hE g1 hc1
  have t2n : xown g1 out ≠ 0 := by rw [t2]; decide
  refine xw_i2l (pc := 7) dX0_account_7 ?_
  refine xw_last (k := 0) (pc := 8) dX0_account_8 (by simp [-List.getD_eq_getElem?_getD, xE_setI, xsz_setI, xsl_setI, xtag_setI, xown_setI, xlen_setI, xE_setR, xsz_setR, xsl_setR, xtag_setR, xown_setR, xlen_setR, xE_setW, xsz_setW, xsl_setW, xtag_setW, xown_setW, xlen_setW, xi_setR, xi_setW, xr_setI, xr_setW, xww_setI, xww_setR, xi_setI, xr_setR, xww_setW, xE_new, xsz_new, xsl_new, hx, t1, t3, t2n]) (by first | assumption | (simp [-List.getD_eq_getElem?_getD, xE_setI, xsz_setI, xsl_setI, xtag_setI, xown_setI, xlen_setI, xE_setR, xsz_setR, xsl_setR, xtag_setR, xown_setR, xlen_setR, xE_setW, xsz_setW, xsl_setW, xtag_setW, xown_setW, xlen_setW, xi_setR, xi_setW, xr_setI, xr_setW, xww_setI, xww_setR, xi_setI, xr_setR, xww_setW, xE_new, xsz_new, xsl_new, hx, t1, t3, t2n]; done) | (simp [-List.getD_eq_getElem?_getD, xE_setI, xsz_setI, xsl_setI, xtag_setI, xown_setI, xlen_setI, xE_setR, xsz_setR, xsl_setR, xtag_setR, xown_setR, xlen_setR, xE_setW, xsz_setW, xsl_setW, xtag_setW, xown_setW, xlen_setW, xi_setR, xi_setW, xr_setI, xr_setW, xww_setI, xww_setR, xi_setI, xr_setR, xww_setW, xE_new, xsz_new, xsl_new, hx, t1, t3, t2n]; assumption)) rfl (by rw [t3]; decide) ?_
  refine xw_goto (pc := 9) 15 dX0_account_9 rfl ?_
  refine xw_iconst (v := nI 0) (pc := 15) dX0_account_15 rfl ?_
  refine xw_iret (pc := 16) .int dX0_account_16 rfl ?_ 
  exact ⟨rfl, g1, hc1, rfl⟩

theorem SP_X0_account_22 {d : Nat} {g : xG} {x out : Nat} {p0 : Int32} {E : xG → Prop} (hx : xtag g x = 1) (h : XM M_X1_account (d + 90) [.ref x, .int p0] g (xErr 22 E)) : XM M_X0_account (d + 91) [.ref x, .int p0, .ref out] g (xVal (.int (nI 1)) E) := by
  refine xm_of (by decide +kernel) (Nat.le_of_ble_eq_true rfl) ?_
  show XW _ _ 0 [(0, _), (1, _), (2, _)] [] _ _
  refine xw_aload_n (pc := 0) dX0_account_0 2 rfl ?_
  refine xw_iconst (v := nI 0) (pc := 1) dX0_account_1 rfl ?_
  refine xw_aload_n (pc := 2) dX0_account_2 0 rfl ?_
  refine xw_iload_n (pc := 3) dX0_account_3 1 rfl ?_
  refine xw_call (pc := 4) (xr_V (as := [_]) ok_X1_account rfl (by decide) q2184 q2185 q2186 (by rw [hx]; rfl) (by rw [hx]; rfl) dX0_account_4 rfl rfl (Nat.le_of_ble_eq_true rfl)) (h) ?_
  intro rs g1 hc1 hm1
  obtain ⟨q, rfl, q1, q2, q3⟩ := hc1
  refine xx_catch [] (0, 9, 12, 21) [] rfl (fun z hz => by cases hz) (cvE (by decide) (by decide)) (by decide) q1175 (by rw [q1]; exact q175) (by rw [q1]; decide) (by rw [q1]; decide) (by rw [q2]; decide) ?_
  refine xw_astore_n (l' := [(3, _), (0, _), (1, _), (2, _)]) (pc := 12) dX0_account_12 rfl (by decide) rfl ?_
  refine xw_iconst (v := nI 1) (pc := 13) dX0_account_13 rfl ?_
  refine xw_iret (pc := 14) .int dX0_account_14 rfl ?_ 
  exact ⟨rfl, q3⟩

theorem SP_X0_undo_ok {d : Nat} {g : xG} {x out : Nat} {E : xG → Prop} (hx : xtag g x = 1) (hE : ∀ g', E g' → xtag g' out = 106 ∧ xown g' out = 4 ∧ xlen g' out = 1) {v : Int32} (h : XM M_X1_undo (d + 90) [.ref x] g (xVal (.int v) E)) : XM M_X0_undo (d + 91) [.ref x, .ref out] g (xVal (.int (nI 0)) (fun g' => ∃ g1, E g1 ∧ g' = xsetW g1 out 0 (v.toInt64.toUInt64))) := by
  refine xm_of (by decide +kernel) (Nat.le_of_ble_eq_true rfl) ?_
  show XW _ _ 0 [(0, _), (1, _)] [] _ _
  refine xw_aload_n (pc := 0) dX0_undo_0 1 rfl ?_
  refine xw_iconst (v := nI 0) (pc := 1) dX0_undo_1 rfl ?_
  refine xw_aload_n (pc := 2) dX0_undo_2 0 rfl ?_
  refine xw_callF (pc := 3) (xr_V (as := []) ok_X1_undo rfl (by decide) q2208 q2209 q2210 (by rw [hx]; rfl) (by rw [hx]; rfl) dX0_undo_3 rfl rfl (Nat.le_of_ble_eq_true rfl)) (h) ?_
  intro g1 hc1 hm1
  obtain ⟨t1, t2, t3⟩ := hE g1 hc1
  have t2n : xown g1 out ≠ 0 := by rw [t2]; decide
  refine xw_i2l (pc := 6) dX0_undo_6 ?_
  refine xw_last (k := 0) (pc := 7) dX0_undo_7 (by simp [-List.getD_eq_getElem?_getD, xE_setI, xsz_setI, xsl_setI, xtag_setI, xown_setI, xlen_setI, xE_setR, xsz_setR, xsl_setR, xtag_setR, xown_setR, xlen_setR, xE_setW, xsz_setW, xsl_setW, xtag_setW, xown_setW, xlen_setW, xi_setR, xi_setW, xr_setI, xr_setW, xww_setI, xww_setR, xi_setI, xr_setR, xww_setW, xE_new, xsz_new, xsl_new, hx, t1, t3, t2n]) (by first | assumption | (simp [-List.getD_eq_getElem?_getD, xE_setI, xsz_setI, xsl_setI, xtag_setI, xown_setI, xlen_setI, xE_setR, xsz_setR, xsl_setR, xtag_setR, xown_setR, xlen_setR, xE_setW, xsz_setW, xsl_setW, xtag_setW, xown_setW, xlen_setW, xi_setR, xi_setW, xr_setI, xr_setW, xww_setI, xww_setR, xi_setI, xr_setR, xww_setW, xE_new, xsz_new, xsl_new, hx, t1, t3, t2n]; done) | (simp [-List.getD_eq_getElem?_getD, xE_setI, xsz_setI, xsl_setI, xtag_setI, xown_setI, xlen_setI, xE_setR, xsz_setR, xsl_setR, xtag_setR, xown_setR, xlen_setR, xE_setW, xsz_setW, xsl_setW, xtag_setW, xown_setW, xlen_setW, xi_setR, xi_setW, xr_setI, xr_setW, xww_setI, xww_setR, xi_setI, xr_setR, xww_setW, xE_new, xsz_new, xsl_new, hx, t1, t3, t2n]; assumption)) rfl (by rw [t3]; decide) ?_
  refine xw_goto (pc := 8) 14 dX0_undo_8 rfl ?_
  refine xw_iconst (v := nI 0) (pc := 14) dX0_undo_14 rfl ?_
  refine xw_iret (pc := 15) .int dX0_undo_15 rfl ?_ 
  exact ⟨rfl, g1, hc1, rfl⟩

theorem SP_X0_undo_24 {d : Nat} {g : xG} {x out : Nat} {E : xG → Prop} (hx : xtag g x = 1) (h : XM M_X1_undo (d + 90) [.ref x] g (xErr 24 E)) : XM M_X0_undo (d + 91) [.ref x, .ref out] g (xVal (.int (nI 1)) E) := by
  refine xm_of (by decide +kernel) (Nat.le_of_ble_eq_true rfl) ?_
  show XW _ _ 0 [(0, _), (1, _)] [] _ _
  refine xw_aload_n (pc := 0) dX0_undo_0 1 rfl ?_
  refine xw_iconst (v := nI 0) (pc := 1) dX0_undo_1 rfl ?_
  refine xw_aload_n (pc := 2) dX0_undo_2 0 rfl ?_
  refine xw_call (pc := 3) (xr_V (as := []) ok_X1_undo rfl (by decide) q2208 q2209 q2210 (by rw [hx]; rfl) (by rw [hx]; rfl) dX0_undo_3 rfl rfl (Nat.le_of_ble_eq_true rfl)) (h) ?_
  intro rs g1 hc1 hm1
  obtain ⟨q, rfl, q1, q2, q3⟩ := hc1
  refine xx_catch [] (0, 8, 11, 15) [] rfl (fun z hz => by cases hz) (cvE (by decide) (by decide)) (by decide) q1051 (by rw [q1]; exact q1094) (by rw [q1]; decide) (by rw [q1]; decide) (by rw [q2]; decide) ?_
  refine xw_astore_n (l' := [(2, _), (0, _), (1, _)]) (pc := 11) dX0_undo_11 rfl (by decide) rfl ?_
  refine xw_iconst (v := nI 1) (pc := 12) dX0_undo_12 rfl ?_
  refine xw_iret (pc := 13) .int dX0_undo_13 rfl ?_ 
  exact ⟨rfl, q3⟩

theorem SP_X0_restore_ok {d : Nat} {g : xG} {x out : Nat} {E : xG → Prop} (hx : xtag g x = 1) (hE : ∀ g', E g' → xtag g' out = 106 ∧ xown g' out = 4 ∧ xlen g' out = 1) {v : Int32} (h : XM M_X1_restore (d + 90) [.ref x] g (xVal (.int v) E)) : XM M_X0_restore (d + 91) [.ref x, .ref out] g (xVal (.int (nI 0)) (fun g' => ∃ g1, E g1 ∧ g' = xsetW g1 out 0 (v.toInt64.toUInt64))) := by
  refine xm_of (by decide +kernel) (Nat.le_of_ble_eq_true rfl) ?_
  show XW _ _ 0 [(0, _), (1, _)] [] _ _
  refine xw_aload_n (pc := 0) dX0_restore_0 1 rfl ?_
  refine xw_iconst (v := nI 0) (pc := 1) dX0_restore_1 rfl ?_
  refine xw_aload_n (pc := 2) dX0_restore_2 0 rfl ?_
  refine xw_callF (pc := 3) (xr_V (as := []) ok_X1_restore rfl (by decide) q2230 q2231 q2232 (by rw [hx]; rfl) (by rw [hx]; rfl) dX0_restore_3 rfl rfl (Nat.le_of_ble_eq_true rfl)) (h) ?_
  intro g1 hc1 hm1
  obtain ⟨t1, t2, t3⟩ := hE g1 hc1
  have t2n : xown g1 out ≠ 0 := by rw [t2]; decide
  refine xw_i2l (pc := 6) dX0_restore_6 ?_
  refine xw_last (k := 0) (pc := 7) dX0_restore_7 (by simp [-List.getD_eq_getElem?_getD, xE_setI, xsz_setI, xsl_setI, xtag_setI, xown_setI, xlen_setI, xE_setR, xsz_setR, xsl_setR, xtag_setR, xown_setR, xlen_setR, xE_setW, xsz_setW, xsl_setW, xtag_setW, xown_setW, xlen_setW, xi_setR, xi_setW, xr_setI, xr_setW, xww_setI, xww_setR, xi_setI, xr_setR, xww_setW, xE_new, xsz_new, xsl_new, hx, t1, t3, t2n]) (by first | assumption | (simp [-List.getD_eq_getElem?_getD, xE_setI, xsz_setI, xsl_setI, xtag_setI, xown_setI, xlen_setI, xE_setR, xsz_setR, xsl_setR, xtag_setR, xown_setR, xlen_setR, xE_setW, xsz_setW, xsl_setW, xtag_setW, xown_setW, xlen_setW, xi_setR, xi_setW, xr_setI, xr_setW, xww_setI, xww_setR, xi_setI, xr_setR, xww_setW, xE_new, xsz_new, xsl_new, hx, t1, t3, t2n]; done) | (simp [-List.getD_eq_getElem?_getD, xE_setI, xsz_setI, xsl_setI, xtag_setI, xown_setI, xlen_setI, xE_setR, xsz_setR, xsl_setR, xtag_setR, xown_setR, xlen_setR, xE_setW, xsz_setW, xsl_setW, xtag_setW, xown_setW, xlen_setW, xi_setR, xi_setW, xr_setI, xr_setW, xww_setI, xww_setR, xi_setI, xr_setR, xww_setW, xE_new, xsz_new, xsl_new, hx, t1, t3, t2n]; assumption)) rfl (by rw [t3]; decide) ?_
  refine xw_goto (pc := 8) 14 dX0_restore_8 rfl ?_
  refine xw_iconst (v := nI 0) (pc := 14) dX0_restore_14 rfl ?_
  refine xw_iret (pc := 15) .int dX0_restore_15 rfl ?_ 
  exact ⟨rfl, g1, hc1, rfl⟩

theorem SP_X0_restore_24 {d : Nat} {g : xG} {x out : Nat} {E : xG → Prop} (hx : xtag g x = 1) (h : XM M_X1_restore (d + 90) [.ref x] g (xErr 24 E)) : XM M_X0_restore (d + 91) [.ref x, .ref out] g (xVal (.int (nI 1)) E) := by
  refine xm_of (by decide +kernel) (Nat.le_of_ble_eq_true rfl) ?_
  show XW _ _ 0 [(0, _), (1, _)] [] _ _
  refine xw_aload_n (pc := 0) dX0_restore_0 1 rfl ?_
  refine xw_iconst (v := nI 0) (pc := 1) dX0_restore_1 rfl ?_
  refine xw_aload_n (pc := 2) dX0_restore_2 0 rfl ?_
  refine xw_call (pc := 3) (xr_V (as := []) ok_X1_restore rfl (by decide) q2230 q2231 q2232 (by rw [hx]; rfl) (by rw [hx]; rfl) dX0_restore_3 rfl rfl (Nat.le_of_ble_eq_true rfl)) (h) ?_
  intro rs g1 hc1 hm1
  obtain ⟨q, rfl, q1, q2, q3⟩ := hc1
  refine xx_catch [] (0, 8, 11, 15) [] rfl (fun z hz => by cases hz) (cvE (by decide) (by decide)) (by decide) q1051 (by rw [q1]; exact q1094) (by rw [q1]; decide) (by rw [q1]; decide) (by rw [q2]; decide) ?_
  refine xw_astore_n (l' := [(2, _), (0, _), (1, _)]) (pc := 11) dX0_restore_11 rfl (by decide) rfl ?_
  refine xw_iconst (v := nI 1) (pc := 12) dX0_restore_12 rfl ?_
  refine xw_iret (pc := 13) .int dX0_restore_13 rfl ?_ 
  exact ⟨rfl, q3⟩

