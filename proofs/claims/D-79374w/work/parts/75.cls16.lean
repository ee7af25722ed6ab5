/-! CLASS 16: whys; what bars a rule -/
set_option maxRecDepth 100000
/-- the whys wq say v: a reason, its detail; reason 0: none -/
def xWy (g : xG) (wq : Nat) (v : Nat × Int32) : Prop := xtag g wq = 8 ∧ xown g wq = 5 ∧ v.1 < 100 ∧ ((v.1 = 0 ∧ xr g wq 0 = none) ∨ (v.1 ≠ 0 ∧ ∃ w, xr g wq 0 = some w ∧ xtag g w = 9 ∧ xown g w = 5 ∧ xi g w 0 = nI v.1 ∧ xi g w 1 = v.2))
def wAsk (v : Nat × Int32) (b : Bool) (re : Nat) (de : Int32) : Nat × Int32 := if v.1 = 0 ∧ b = true then (re, de) else v
def wThen (v w : Nat × Int32) : Nat × Int32 := if v.1 = 0 then w else v
theorem xWy.congr {g : xG} {wq : Nat} {v w : Nat × Int32} (h : xWy g wq v) (e : v.1 = w.1 ∧ (v.1 ≠ 0 → v.2 = w.2)) : xWy g wq w := by
  obtain ⟨a, b, c, d⟩ := h
  refine ⟨a, b, by omega, ?_⟩
  rcases d with d | ⟨d1, q, d2, d3, d4, d5, d6⟩
  · exact Or.inl ⟨by omega, d.2⟩
  · exact Or.inr ⟨by omega, q, d2, d3, d4, by rw [d5, e.1], by rw [d6, e.2 d1]⟩
theorem xWy.fr {O : Nat → Prop} {n : Nat} {g g' : xG} {wq : Nat} {v : Nat × Int32} (h : xWy g wq v) (F : xFr O n g g') (h5 : ¬ O 5) : xWy g' wq v := by
  obtain ⟨a, b, c, d⟩ := h
  have hw : wq < xsz g := xlt (by rw [a]; decide)
  have ho : ¬ O (xown g wq) := by rw [b]; exact h5
  refine ⟨(F.tag hw).trans a, (F.own hw).trans b, c, ?_⟩
  rw [F.r' hw ho]
  rcases d with d | ⟨d1, q, d2, d3, d4, d5, d6⟩
  · exact Or.inl d
  · have hq : q < xsz g := xlt (by rw [d3]; decide)
    have hoq : ¬ O (xown g q) := by rw [d4]; exact h5
    exact Or.inr ⟨d1, q, d2, (F.tag hq).trans d3, (F.own hq).trans d4, (F.i' hq hoq).trans d5, (F.i' hq hoq).trans d6⟩
/-- asking once more -/
theorem SP_X10_asks {d : Nat} {g : xG} {a : Nat} {v : Nat × Int32} {b : Bool} {re : Nat} {c : Nat} {y : Int32} (h : xWy g a v) (hc : nI c = bI b) (hre : 0 < re ∧ re < 100) : XM M_X10_asks (d + 2) [.ref a, .int (nI c), .int (nI re), .int y] g (xVal (.ref a) (fun g' => xWy g' a (wAsk v b re y) ∧ xFr (oEq 5) 3 g g')) := by
  obtain ⟨h1, h2, h3, h4⟩ := h
  rw [hc]
  cases b with
  | false =>
    refine (SP_X10_asks_0 (d := d + 2)).mono (fun rs g' hp _ => ?_)
    obtain ⟨rfl, rfl⟩ := hp
    refine ⟨rfl, ?_, xFr.rf⟩
    unfold wAsk
    rw [if_neg (fun q => by have := q.2; cases this)]
    exact ⟨h1, h2, h3, h4⟩
  | true =>
    rcases h4 with ⟨d1, d2⟩ | ⟨d1, w, d2, d3, d4, d5, d6⟩
    · refine (SP_X10_asks_T (d := d) (x := nI re) (y := y) h1 (by rw [h2]; decide) d2).mono (fun rs g' hp _ => ?_)
      obtain ⟨rfl, rfl⟩ := hp
      have hlt : a < xsz g := xlt (by rw [h1]; decide)
      have hne : xsz g ≠ a := by omega
      have t : xtag (xNew g (xBlank 9 5 2) 2) (xsz g) ≠ 0 := by rw [xtag_newS rfl]; decide
      unfold wAsk
      rw [if_pos ⟨d1, rfl⟩]
      refine ⟨rfl, ⟨?_, ?_, hre.2, Or.inr ⟨by show re ≠ 0; omega, xsz g, ?_, ?_, ?_, ?_, ?_⟩⟩, ?_⟩
      · rw [xtag_setR, xtag_setI, xtag_setI, xtag_new hlt]; exact h1
      · rw [xown_setR, xown_setI, xown_setI, xown_new hlt]; exact h2
      · rw [xr_setRS (by rw [xtag_setI, xtag_setI, xtag_new hlt, h1]; decide)]
      · rw [xtag_setR, xtag_setI, xtag_setI, xtag_newS rfl]; rfl
      · rw [xown_setR, xown_setI, xown_setI, xown_newS rfl]; rfl
      · rw [xi_setR, xi_setIK (by decide), xi_setIS t]
      · rw [xi_setR, xi_setIS (by rw [xtag_setI]; exact t)]
      · have F : xFr (oEq 5) (0 + (2 + 1)) g (xNew g (xBlank 9 5 2) 2) := xFr.rf.nw
        exact (((F.si (Or.inl (Nat.le_refl _))).si (Or.inl (Nat.le_refl _))).sr (Or.inr (by rw [xown_setI, xown_setI, xown_new hlt]; exact h2))).sub (fun _ h => h) (by omega)
    · refine (SP_X10_asks_1 (d := d + 2) (x := nI re) (y := y) h1 d2).mono (fun rs g' hp _ => ?_)
      obtain ⟨rfl, rfl⟩ := hp
      refine ⟨rfl, ?_, xFr.rf⟩
      unfold wAsk
      rw [if_neg (fun q => d1 q.1)]
      exact ⟨h1, h2, h3, Or.inr ⟨d1, w, d2, d3, d4, d5, d6⟩⟩
theorem SP_X2_barsRule {d : Nat} {g : xG} {p o1 o2 o3 sl rl wl sa ra wa : Nat} {cs rs ws : List Nat} (hP : xPl g p o1 o2 o3 sl rl wl sa ra wa cs rs ws) {wq : Nat} {v : Nat × Int32} (hw : xWy g wq v) {first last : Int32} : XM M_X2_barsRule (d + 3) [.ref p, .ref wq, .int first, .int last] g (xVal (.ref wq) (fun g' => xWy g' wq (wThen v (hind0 rs.length first last)) ∧ xFr (oEq 5) 6 g g')) := by
  have hP0 := hP
  obtain ⟨p1, p2, p3, p4, p5, p6, p7⟩ := hP
  have tq := hw.1
  have tsl : xtag g sl = 18 := p5.1
  have trl : xtag g rl = 18 := p6.1
  have hll := p6.2.2.2.2.2.2.2.1
  have hl2 := p6.2.2.2.2.2.2.1
  refine xm_of (by decide +kernel) (Nat.le_of_ble_eq_true rfl) ?_
  show XW _ _ 0 [(0, _), (1, _), (2, _), (3, _)] [] _ _
  refine xw_aload_n (pc := 0) dX2_barsRule_0 1 rfl ?_
  refine xw_aload_n (pc := 1) dX2_barsRule_1 0 rfl ?_
  refine xw_getS (b := rl) (pc := 2) fd_X2_20 dX2_barsRule_2 (by first | assumption | (simp [-List.getD_eq_getElem?_getD, xE_setI, xsz_setI, xsl_setI, xtag_setI, xown_setI, xlen_setI, xE_setR, xsz_setR, xsl_setR, xtag_setR, xown_setR, xlen_setR, xE_setW, xsz_setW, xsl_setW, xtag_setW, xown_setW, xlen_setW, xi_setR, xi_setW, xr_setI, xr_setW, xww_setI, xww_setR, xi_setI, xr_setR, xww_setW, xE_new, xsz_new, xsl_new, p1, p2, p3, p4, xsub]; done) | (simp [-List.getD_eq_getElem?_getD, xE_setI, xsz_setI, xsl_setI, xtag_setI, xown_setI, xlen_setI, xE_setR, xsz_setR, xsl_setR, xtag_setR, xown_setR, xlen_setR, xE_setW, xsz_setW, xsl_setW, xtag_setW, xown_setW, xlen_setW, xi_setR, xi_setW, xr_setI, xr_setW, xww_setI, xww_setR, xi_setI, xr_setR, xww_setW, xE_new, xsz_new, xsl_new, p1, p2, p3, p4] <;> rfl)) (by simp [-List.getD_eq_getElem?_getD, xE_setI, xsz_setI, xsl_setI, xtag_setI, xown_setI, xlen_setI, xE_setR, xsz_setR, xsl_setR, xtag_setR, xown_setR, xlen_setR, xE_setW, xsz_setW, xsl_setW, xtag_setW, xown_setW, xlen_setW, xi_setR, xi_setW, xr_setI, xr_setW, xww_setI, xww_setR, xi_setI, xr_setR, xww_setW, xE_new, xsz_new, xsl_new, p1, p2, p3, p4]) ?_
  refine xw_callV (pc := 5) (xr_V (as := []) ok_J2_size rfl (by decide) q910 q702 q703 (by rw [trl]; rfl) (by rw [trl]; rfl) dX2_barsRule_5 rfl rfl (Nat.le_of_ble_eq_true rfl)) (SP_J2_size p6) ?_
  refine xw_bipush (v := nI 16) (pc := 8) dX2_barsRule_8 (by decide +kernel) ?_
  refine xw_icmp_ne (pc := 10) 17 dX2_barsRule_10 rfl (fun hb10 => ?_) (fun hb10 => ?_)
  · replace hb10 : ¬ (rs.length = 16) := mt (nI_eq (a := rs.length) (b := 16) (by omega) (by omega)).mpr hb10
    refine xw_iconst (v := nI 0) (pc := 17) dX2_barsRule_17 rfl ?_
    refine xw_iconst (v := nI 2) (pc := 18) dX2_barsRule_18 rfl ?_
    refine xw_iconst (v := nI 0) (pc := 19) dX2_barsRule_19 rfl ?_
    refine xw_callF (pc := 20) (xr_V (as := [_, _, _]) ok_X10_asks rfl (by decide) q1283 q1284 q1285 (by rw [tq]; rfl) (by rw [tq]; rfl) dX2_barsRule_20 rfl rfl (Nat.le_of_ble_eq_true rfl)) (SP_X10_asks (b := false) (re := 2) (c := 0) hw (by first | rfl | exact nI1 | exact nI0) (by decide)) ?_
    intro g20 hc20 hm20
    have tq := hc20.1.1
    have hc20b := hc20.1
    refine xw_iload_n (pc := 23) dX2_barsRule_23 2 rfl ?_
    refine xw_iload_n (pc := 24) dX2_barsRule_24 3 rfl ?_
    refine xw_icmp_le (pc := 25) 32 dX2_barsRule_25 rfl (fun hb25 => ?_) (fun hb25 => ?_)
    · have hlf : ¬ last < first := Int32.not_lt.mpr hb25
      refine xw_iconst (v := nI 0) (pc := 32) dX2_barsRule_32 rfl ?_
      refine xw_iconst (v := nI 3) (pc := 33) dX2_barsRule_33 rfl ?_
      refine xw_iload_n (pc := 34) dX2_barsRule_34 2 rfl ?_
      refine xw_callF (pc := 35) (xr_V (as := [_, _, _]) ok_X10_asks rfl (by decide) q1283 q1284 q1285 (by rw [tq]; rfl) (by rw [tq]; rfl) dX2_barsRule_35 rfl rfl (Nat.le_of_ble_eq_true rfl)) (SP_X10_asks (b := false) (re := 3) (c := 0) hc20.1 (by first | rfl | exact nI1 | exact nI0) (by decide)) ?_
      intro g35 hc35 hm35
      refine xw_aret (pc := 38) (.object "PolicyNotation$Whys") dX2_barsRule_38 rfl ?_
      refine ⟨rfl, hc35.1.congr ?_, ((hc20.2).tr hc35.2).sub (fun _ h => h) (by omega)⟩
      unfold wAsk wThen hind0
      first | simp only [if_pos hlf] | simp only [if_neg hlf]
      by_cases hv : v.1 = 0 <;> simp_all
    · have hlf : last < first := Int32.not_le.mp hb25
      refine xw_iconst (v := nI 1) (pc := 28) dX2_barsRule_28 rfl ?_
      refine xw_goto (pc := 29) 33 dX2_barsRule_29 rfl ?_
      refine xw_iconst (v := nI 3) (pc := 33) dX2_barsRule_33 rfl ?_
      refine xw_iload_n (pc := 34) dX2_barsRule_34 2 rfl ?_
      refine xw_callF (pc := 35) (xr_V (as := [_, _, _]) ok_X10_asks rfl (by decide) q1283 q1284 q1285 (by rw [tq]; rfl) (by rw [tq]; rfl) dX2_barsRule_35 rfl rfl (Nat.le_of_ble_eq_true rfl)) (SP_X10_asks (b := true) (re := 3) (c := 1) hc20.1 (by first | rfl | exact nI1 | exact nI0) (by decide)) ?_
      intro g35 hc35 hm35
      refine xw_aret (pc := 38) (.object "PolicyNotation$Whys") dX2_barsRule_38 rfl ?_
      refine ⟨rfl, hc35.1.congr ?_, ((hc20.2).tr hc35.2).sub (fun _ h => h) (by omega)⟩
      unfold wAsk wThen hind0
      first | simp only [if_pos hlf] | simp only [if_neg hlf]
      by_cases hv : v.1 = 0 <;> simp_all
  · replace hb10 : rs.length = 16 := (nI_eq (a := rs.length) (b := 16) (by omega) (by omega)).mp hb10
    refine xw_iconst (v := nI 1) (pc := 13) dX2_barsRule_13 rfl ?_
    refine xw_goto (pc := 14) 18 dX2_barsRule_14 rfl ?_
    refine xw_iconst (v := nI 2) (pc := 18) dX2_barsRule_18 rfl ?_
    refine xw_iconst (v := nI 0) (pc := 19) dX2_barsRule_19 rfl ?_
    refine xw_callF (pc := 20) (xr_V (as := [_, _, _]) ok_X10_asks rfl (by decide) q1283 q1284 q1285 (by rw [tq]; rfl) (by rw [tq]; rfl) dX2_barsRule_20 rfl rfl (Nat.le_of_ble_eq_true rfl)) (SP_X10_asks (b := true) (re := 2) (c := 1) hw (by first | rfl | exact nI1 | exact nI0) (by decide)) ?_
    intro g20 hc20 hm20
    have tq := hc20.1.1
    have hc20b := hc20.1
    refine xw_iload_n (pc := 23) dX2_barsRule_23 2 rfl ?_
    refine xw_iload_n (pc := 24) dX2_barsRule_24 3 rfl ?_
    refine xw_icmp_le (pc := 25) 32 dX2_barsRule_25 rfl (fun hb25 => ?_) (fun hb25 => ?_)
    · have hlf : ¬ last < first := Int32.not_lt.mpr hb25
      refine xw_iconst (v := nI 0) (pc := 32) dX2_barsRule_32 rfl ?_
      refine xw_iconst (v := nI 3) (pc := 33) dX2_barsRule_33 rfl ?_
      refine xw_iload_n (pc := 34) dX2_barsRule_34 2 rfl ?_
      refine xw_callF (pc := 35) (xr_V (as := [_, _, _]) ok_X10_asks rfl (by decide) q1283 q1284 q1285 (by rw [tq]; rfl) (by rw [tq]; rfl) dX2_barsRule_35 rfl rfl (Nat.le_of_ble_eq_true rfl)) (SP_X10_asks (b := false) (re := 3) (c := 0) hc20.1 (by first | rfl | exact nI1 | exact nI0) (by decide)) ?_
      intro g35 hc35 hm35
      refine xw_aret (pc := 38) (.object "PolicyNotation$Whys") dX2_barsRule_38 rfl ?_
      refine ⟨rfl, hc35.1.congr ?_, ((hc20.2).tr hc35.2).sub (fun _ h => h) (by omega)⟩
      unfold wAsk wThen hind0
      first | simp only [if_pos hlf] | simp only [if_neg hlf]
      by_cases hv : v.1 = 0 <;> simp_all
    · have hlf : last < first := Int32.not_le.mp hb25
      refine xw_iconst (v := nI 1) (pc := 28) dX2_barsRule_28 rfl ?_
      refine xw_goto (pc := 29) 33 dX2_barsRule_29 rfl ?_
      refine xw_iconst (v := nI 3) (pc := 33) dX2_barsRule_33 rfl ?_
      refine xw_iload_n (pc := 34) dX2_barsRule_34 2 rfl ?_
      refine xw_callF (pc := 35) (xr_V (as := [_, _, _]) ok_X10_asks rfl (by decide) q1283 q1284 q1285 (by rw [tq]; rfl) (by rw [tq]; rfl) dX2_barsRule_35 rfl rfl (Nat.le_of_ble_eq_true rfl)) (SP_X10_asks (b := true) (re := 3) (c := 1) hc20.1 (by first | rfl | exact nI1 | exact nI0) (by decide)) ?_
      intro g35 hc35 hm35
      refine xw_aret (pc := 38) (.object "PolicyNotation$Whys") dX2_barsRule_38 rfl ?_
      refine ⟨rfl, hc35.1.congr ?_, ((hc20.2).tr hc35.2).sub (fun _ h => h) (by omega)⟩
      unfold wAsk wThen hind0
      first | simp only [if_pos hlf] | simp only [if_neg hlf]
      by_cases hv : v.1 = 0 <;> simp_all

/-- what bars an exception of the rule q in the scope k -/
def hindE (s : Nat → Int32) (q k : Nat) : Nat × Int32 := if wit s k (aN s (23 + 20 * q + 1)) = false then (4, s (23 + 20 * q + 1)) else if rdep s q = 4 then (5, nI 0) else (0, nI 0)
theorem SP_X2_barsException {d : Nat} {g : xG} {p nn rr ww q k : Nat} {Z : xAd} {s : Nat → Int32} (hP : xPol g p Z s nn rr ww) {wq : Nat} {v : Nat × Int32} (hw : xWy g wq v) (hq : q < rr) (hk : k < nn) : XM M_X2_barsException (d + 11) [.ref p, .ref wq, .ref ((aR Z).getD q 0), .int (nI k)] g (xVal (.ref wq) (fun g' => xWy g' wq (wThen v (hindE s q k)) ∧ xFr (oEq 5) 6 g g')) := by
  have w1 := hP.tag
  have w2 := hP.f0
  have tq := hw.1
  have tl0 : xtag g (aL Z 0) = 18 := hP.l0.1
  have n10 := hP.wf.n10
  have r16 := hP.wf.r16
  have lc := hP.lc
  have tsc : xtag g ((aC Z).getD k 0) = 3 := (hP.sc k hk).1
  have hru := hP.ru hq
  have txr := xRu_x hru
  obtain ⟨rt, r0, r1, -⟩ := hru
  obtain ⟨⟨e1, e2⟩, -⟩ := hP.wf.ru hq
  have hwi := SP_X3_isWithin hP.sc hP.wf.o n10 (aN s (23 + 20 * q + 1)) (by omega) k hk (d + 10) (by omega)
  have hdp := (hP.wf.ru hq).2.2.2.2.2.2.1
  refine xm_of (by decide +kernel) (Nat.le_of_ble_eq_true rfl) ?_
  show XW _ _ 0 [(0, _), (1, _), (2, _), (3, _)] [] _ _
  refine xw_aload_n (pc := 0) dX2_barsException_0 0 rfl ?_
  refine xw_getS (b := (aL Z 0)) (pc := 1) fd_X2_14 dX2_barsException_1 (by first | assumption | (simp [-List.getD_eq_getElem?_getD, xE_setI, xsz_setI, xsl_setI, xtag_setI, xown_setI, xlen_setI, xE_setR, xsz_setR, xsl_setR, xtag_setR, xown_setR, xlen_setR, xE_setW, xsz_setW, xsl_setW, xtag_setW, xown_setW, xlen_setW, xi_setR, xi_setW, xr_setI, xr_setW, xww_setI, xww_setR, xi_setI, xr_setR, xww_setW, xE_new, xsz_new, xsl_new, w1, w2, txr, r1, xsub]; done) | (simp [-List.getD_eq_getElem?_getD, xE_setI, xsz_setI, xsl_setI, xtag_setI, xown_setI, xlen_setI, xE_setR, xsz_setR, xsl_setR, xtag_setR, xown_setR, xlen_setR, xE_setW, xsz_setW, xsl_setW, xtag_setW, xown_setW, xlen_setW, xi_setR, xi_setW, xr_setI, xr_setW, xww_setI, xww_setR, xi_setI, xr_setR, xww_setW, xE_new, xsz_new, xsl_new, w1, w2, txr, r1] <;> rfl)) (by simp [-List.getD_eq_getElem?_getD, xE_setI, xsz_setI, xsl_setI, xtag_setI, xown_setI, xlen_setI, xE_setR, xsz_setR, xsl_setR, xtag_setR, xown_setR, xlen_setR, xE_setW, xsz_setW, xsl_setW, xtag_setW, xown_setW, xlen_setW, xi_setR, xi_setW, xr_setI, xr_setW, xww_setI, xww_setR, xi_setI, xr_setR, xww_setW, xE_new, xsz_new, xsl_new, w1, w2, txr, r1]) ?_
  refine xw_iload_n (pc := 4) dX2_barsException_4 3 rfl ?_
  refine xw_callV (pc := 5) (xr_V (as := [_]) ok_J2_get rfl (by decide) q911 q706 q707 (by rw [tl0]; rfl) (by rw [tl0]; rfl) dX2_barsException_5 rfl rfl (Nat.le_of_ble_eq_true rfl)) (SP_J2_get hP.l0 k (by omega)) ?_
  refine xw_chkS (pc := 8) dX2_barsException_8 (by rw [tsc]; exact q504) (by rw [tsc]; rfl) ?_
  refine xw_aload_n (pc := 11) dX2_barsException_11 2 rfl ?_
  refine xw_getI (pc := 12) fd_X2_108 dX2_barsException_12 (by first | assumption | (simp [-List.getD_eq_getElem?_getD, xE_setI, xsz_setI, xsl_setI, xtag_setI, xown_setI, xlen_setI, xE_setR, xsz_setR, xsl_setR, xtag_setR, xown_setR, xlen_setR, xE_setW, xsz_setW, xsl_setW, xtag_setW, xown_setW, xlen_setW, xi_setR, xi_setW, xr_setI, xr_setW, xww_setI, xww_setR, xi_setI, xr_setR, xww_setW, xE_new, xsz_new, xsl_new, w1, w2, txr, r1, xsub]; done) | (simp [-List.getD_eq_getElem?_getD, xE_setI, xsz_setI, xsl_setI, xtag_setI, xown_setI, xlen_setI, xE_setR, xsz_setR, xsl_setR, xtag_setR, xown_setR, xlen_setR, xE_setW, xsz_setW, xsl_setW, xtag_setW, xown_setW, xlen_setW, xi_setR, xi_setW, xr_setI, xr_setW, xww_setI, xww_setR, xi_setI, xr_setR, xww_setW, xE_new, xsz_new, xsl_new, w1, w2, txr, r1] <;> rfl)) ?_
  rw [r1, e1]
  refine xw_callV (pc := 15) (xr_V (as := [_]) ok_X3_isWithin rfl (by decide) q1350 q787 q788 (by rw [tsc]; rfl) (by rw [tsc]; rfl) dX2_barsException_15 rfl rfl (Nat.le_of_ble_eq_true rfl)) (hwi) ?_
  refine xw_if_ne (pc := 18) 25 dX2_barsException_18 rfl (fun hb18 => ?_) (fun hb18 => ?_)
  · replace hb18 := bI_n0.mp hb18
    refine xw_iconst (v := nI 0) (pc := 25) dX2_barsException_25 rfl ?_
    refine xw_istore (l' := [(4, _), (0, _), (1, _), (2, _), (3, _)]) (pc := 26) dX2_barsException_26 (by decide) rfl ?_
    refine xw_aload_n (pc := 28) dX2_barsException_28 2 rfl ?_
    refine xw_iload (pc := 29) dX2_barsException_29 0 rfl ?_
    refine xw_iconst (v := nI 4) (pc := 31) dX2_barsException_31 rfl ?_
    refine xw_aload_n (pc := 32) dX2_barsException_32 3 rfl ?_
    refine xw_getI (pc := 33) fd_X2_108 dX2_barsException_33 (by first | assumption | (simp [-List.getD_eq_getElem?_getD, xE_setI, xsz_setI, xsl_setI, xtag_setI, xown_setI, xlen_setI, xE_setR, xsz_setR, xsl_setR, xtag_setR, xown_setR, xlen_setR, xE_setW, xsz_setW, xsl_setW, xtag_setW, xown_setW, xlen_setW, xi_setR, xi_setW, xr_setI, xr_setW, xww_setI, xww_setR, xi_setI, xr_setR, xww_setW, xE_new, xsz_new, xsl_new, w1, w2, txr, r1, xsub]; done) | (simp [-List.getD_eq_getElem?_getD, xE_setI, xsz_setI, xsl_setI, xtag_setI, xown_setI, xlen_setI, xE_setR, xsz_setR, xsl_setR, xtag_setR, xown_setR, xlen_setR, xE_setW, xsz_setW, xsl_setW, xtag_setW, xown_setW, xlen_setW, xi_setR, xi_setW, xr_setI, xr_setW, xww_setI, xww_setR, xi_setI, xr_setR, xww_setW, xE_new, xsz_new, xsl_new, w1, w2, txr, r1] <;> rfl)) ?_
    rw [r1]
    refine xw_callF (pc := 36) (xr_V (as := [_, _, _]) ok_X10_asks rfl (by decide) q1283 q1284 q1285 (by rw [tq]; rfl) (by rw [tq]; rfl) dX2_barsException_36 rfl rfl (Nat.le_of_ble_eq_true rfl)) (SP_X10_asks (b := false) (re := 4) (c := 0) hw (by first | rfl | exact nI1 | exact nI0) (by decide)) ?_
    intro g36 hc36 hm36
    have F6 := hc36.2
    have tq := hc36.1.1
    have hlb : (aR Z).getD q 0 < xsz g := xlt (by rcases rt with h | h <;> rw [h] <;> decide)
    have rt6 : xtag g36 ((aR Z).getD q 0) = 6 ∨ xtag g36 ((aR Z).getD q 0) = 7 := by rw [F6.tag hlb]; exact rt
    have hP6 := hP.fr F6 (fun o h1 h2 => by have := hP.p0; unfold oP at h1; unfold oEq at h2; omega) (by unfold oEq; omega)
    have rd6 : rDep g36 ((aR Z).getD q 0) = nI (rdep s q) := (hP6.ru hq).2.2.2.2.2.2.2.2.2.2.2.1
    refine xw_aload_n (pc := 39) dX2_barsException_39 3 rfl ?_
    refine xw_rdepth (pc := 40) rt6 dX2_barsException_40 q1351 (Nat.le_of_ble_eq_true rfl) ?_
    rw [rd6]
    refine xw_iconst (v := nI 4) (pc := 43) dX2_barsException_43 rfl ?_
    refine xw_icmp_ne (pc := 44) 51 dX2_barsException_44 rfl (fun hb44 => ?_) (fun hb44 => ?_)
    · replace hb44 : ¬ ((rdep s q) = 4) := mt (nI_eq (a := (rdep s q)) (b := 4) (by omega) (by omega)).mpr hb44
      have hdf : ¬ rdep s q = 4 := hb44
      refine xw_iconst (v := nI 0) (pc := 51) dX2_barsException_51 rfl ?_
      refine xw_iconst (v := nI 5) (pc := 52) dX2_barsException_52 rfl ?_
      refine xw_iconst (v := nI 0) (pc := 53) dX2_barsException_53 rfl ?_
      refine xw_callF (pc := 54) (xr_V (as := [_, _, _]) ok_X10_asks rfl (by decide) q1283 q1284 q1285 (by rw [tq]; rfl) (by rw [tq]; rfl) dX2_barsException_54 rfl rfl (Nat.le_of_ble_eq_true rfl)) (SP_X10_asks (b := false) (re := 5) (c := 0) hc36.1 (by first | rfl | exact nI1 | exact nI0) (by decide)) ?_
      intro g54 hc54 hm54
      refine xw_aret (pc := 57) (.object "PolicyNotation$Whys") dX2_barsException_57 rfl ?_
      refine ⟨rfl, hc54.1.congr ?_, ((hc36.2).tr hc54.2).sub (fun _ h => h) (by omega)⟩
      unfold wAsk wThen hindE
      first | simp only [if_pos hdf] | simp only [if_neg hdf]
      by_cases hv : v.1 = 0 <;> simp_all
    · replace hb44 : (rdep s q) = 4 := (nI_eq (a := (rdep s q)) (b := 4) (by omega) (by omega)).mp hb44
      have hdf : rdep s q = 4 := hb44
      refine xw_iconst (v := nI 1) (pc := 47) dX2_barsException_47 rfl ?_
      refine xw_goto (pc := 48) 52 dX2_barsException_48 rfl ?_
      refine xw_iconst (v := nI 5) (pc := 52) dX2_barsException_52 rfl ?_
      refine xw_iconst (v := nI 0) (pc := 53) dX2_barsException_53 rfl ?_
      refine xw_callF (pc := 54) (xr_V (as := [_, _, _]) ok_X10_asks rfl (by decide) q1283 q1284 q1285 (by rw [tq]; rfl) (by rw [tq]; rfl) dX2_barsException_54 rfl rfl (Nat.le_of_ble_eq_true rfl)) (SP_X10_asks (b := true) (re := 5) (c := 1) hc36.1 (by first | rfl | exact nI1 | exact nI0) (by decide)) ?_
      intro g54 hc54 hm54
      refine xw_aret (pc := 57) (.object "PolicyNotation$Whys") dX2_barsException_57 rfl ?_
      refine ⟨rfl, hc54.1.congr ?_, ((hc36.2).tr hc54.2).sub (fun _ h => h) (by omega)⟩
      unfold wAsk wThen hindE
      first | simp only [if_pos hdf] | simp only [if_neg hdf]
      by_cases hv : v.1 = 0 <;> simp_all
  · replace hb18 := bI_0.mp hb18
    refine xw_iconst (v := nI 1) (pc := 21) dX2_barsException_21 rfl ?_
    refine xw_goto (pc := 22) 26 dX2_barsException_22 rfl ?_
    refine xw_istore (l' := [(4, _), (0, _), (1, _), (2, _), (3, _)]) (pc := 26) dX2_barsException_26 (by decide) rfl ?_
    refine xw_aload_n (pc := 28) dX2_barsException_28 2 rfl ?_
    refine xw_iload (pc := 29) dX2_barsException_29 0 rfl ?_
    refine xw_iconst (v := nI 4) (pc := 31) dX2_barsException_31 rfl ?_
    refine xw_aload_n (pc := 32) dX2_barsException_32 3 rfl ?_
    refine xw_getI (pc := 33) fd_X2_108 dX2_barsException_33 (by first | assumption | (simp [-List.getD_eq_getElem?_getD, xE_setI, xsz_setI, xsl_setI, xtag_setI, xown_setI, xlen_setI, xE_setR, xsz_setR, xsl_setR, xtag_setR, xown_setR, xlen_setR, xE_setW, xsz_setW, xsl_setW, xtag_setW, xown_setW, xlen_setW, xi_setR, xi_setW, xr_setI, xr_setW, xww_setI, xww_setR, xi_setI, xr_setR, xww_setW, xE_new, xsz_new, xsl_new, w1, w2, txr, r1, xsub]; done) | (simp [-List.getD_eq_getElem?_getD, xE_setI, xsz_setI, xsl_setI, xtag_setI, xown_setI, xlen_setI, xE_setR, xsz_setR, xsl_setR, xtag_setR, xown_setR, xlen_setR, xE_setW, xsz_setW, xsl_setW, xtag_setW, xown_setW, xlen_setW, xi_setR, xi_setW, xr_setI, xr_setW, xww_setI, xww_setR, xi_setI, xr_setR, xww_setW, xE_new, xsz_new, xsl_new, w1, w2, txr, r1] <;> rfl)) ?_
    rw [r1]
    refine xw_callF (pc := 36) (xr_V (as := [_, _, _]) ok_X10_asks rfl (by decide) q1283 q1284 q1285 (by rw [tq]; rfl) (by rw [tq]; rfl) dX2_barsException_36 rfl rfl (Nat.le_of_ble_eq_true rfl)) (SP_X10_asks (b := true) (re := 4) (c := 1) hw (by first | rfl | exact nI1 | exact nI0) (by decide)) ?_
    intro g36 hc36 hm36
    have F6 := hc36.2
    have tq := hc36.1.1
    have hlb : (aR Z).getD q 0 < xsz g := xlt (by rcases rt with h | h <;> rw [h] <;> decide)
    have rt6 : xtag g36 ((aR Z).getD q 0) = 6 ∨ xtag g36 ((aR Z).getD q 0) = 7 := by rw [F6.tag hlb]; exact rt
    have hP6 := hP.fr F6 (fun o h1 h2 => by have := hP.p0; unfold oP at h1; unfold oEq at h2; omega) (by unfold oEq; omega)
    have rd6 : rDep g36 ((aR Z).getD q 0) = nI (rdep s q) := (hP6.ru hq).2.2.2.2.2.2.2.2.2.2.2.1
    refine xw_aload_n (pc := 39) dX2_barsException_39 3 rfl ?_
    refine xw_rdepth (pc := 40) rt6 dX2_barsException_40 q1351 (Nat.le_of_ble_eq_true rfl) ?_
    rw [rd6]
    refine xw_iconst (v := nI 4) (pc := 43) dX2_barsException_43 rfl ?_
    refine xw_icmp_ne (pc := 44) 51 dX2_barsException_44 rfl (fun hb44 => ?_) (fun hb44 => ?_)
    · replace hb44 : ¬ ((rdep s q) = 4) := mt (nI_eq (a := (rdep s q)) (b := 4) (by omega) (by omega)).mpr hb44
      have hdf : ¬ rdep s q = 4 := hb44
      refine xw_iconst (v := nI 0) (pc := 51) dX2_barsException_51 rfl ?_
      refine xw_iconst (v := nI 5) (pc := 52) dX2_barsException_52 rfl ?_
      refine xw_iconst (v := nI 0) (pc := 53) dX2_barsException_53 rfl ?_
      refine xw_callF (pc := 54) (xr_V (as := [_, _, _]) ok_X10_asks rfl (by decide) q1283 q1284 q1285 (by rw [tq]; rfl) (by rw [tq]; rfl) dX2_barsException_54 rfl rfl (Nat.le_of_ble_eq_true rfl)) (SP_X10_asks (b := false) (re := 5) (c := 0) hc36.1 (by first | rfl | exact nI1 | exact nI0) (by decide)) ?_
      intro g54 hc54 hm54
      refine xw_aret (pc := 57) (.object "PolicyNotation$Whys") dX2_barsException_57 rfl ?_
      refine ⟨rfl, hc54.1.congr ?_, ((hc36.2).tr hc54.2).sub (fun _ h => h) (by omega)⟩
      unfold wAsk wThen hindE
      first | simp only [if_pos hdf] | simp only [if_neg hdf]
      by_cases hv : v.1 = 0 <;> simp_all
    · replace hb44 : (rdep s q) = 4 := (nI_eq (a := (rdep s q)) (b := 4) (by omega) (by omega)).mp hb44
      have hdf : rdep s q = 4 := hb44
      refine xw_iconst (v := nI 1) (pc := 47) dX2_barsException_47 rfl ?_
      refine xw_goto (pc := 48) 52 dX2_barsException_48 rfl ?_
      refine xw_iconst (v := nI 5) (pc := 52) dX2_barsException_52 rfl ?_
      refine xw_iconst (v := nI 0) (pc := 53) dX2_barsException_53 rfl ?_
      refine xw_callF (pc := 54) (xr_V (as := [_, _, _]) ok_X10_asks rfl (by decide) q1283 q1284 q1285 (by rw [tq]; rfl) (by rw [tq]; rfl) dX2_barsException_54 rfl rfl (Nat.le_of_ble_eq_true rfl)) (SP_X10_asks (b := true) (re := 5) (c := 1) hc36.1 (by first | rfl | exact nI1 | exact nI0) (by decide)) ?_
      intro g54 hc54 hm54
      refine xw_aret (pc := 57) (.object "PolicyNotation$Whys") dX2_barsException_57 rfl ?_
      refine ⟨rfl, hc54.1.congr ?_, ((hc36.2).tr hc54.2).sub (fun _ h => h) (by omega)⟩
      unfold wAsk wThen hindE
      first | simp only [if_pos hdf] | simp only [if_neg hdf]
      by_cases hv : v.1 = 0 <;> simp_all

theorem SP_X2_add {d : Nat} {g : xG} {p o1 o2 o3 sl rl wl sa ra wa b : Nat} {cs rs ws : List Nat} (hP : xPl g p o1 o2 o3 sl rl wl sa ra wa cs rs ws) (ho : o2 ≠ 0) (hb : xtag g b = 6 ∨ xtag g b = 7) (hbo : xown g b ≠ o2) (hf : rs.length < xlen g ra) : XM M_X2_add (d + 2) [.ref p, .ref b] g (xVal (.int (xi g b 0)) (fun g' => xAL g' o2 rl ra (rs ++ [b]) ∧ xFr (oEq o2) 0 g g')) := by
  obtain ⟨p1, p2, p3, p4, p5, p6, p7⟩ := hP
  have trl : xtag g rl = 18 := p6.1
  have hlb : b < xsz g := xlt (by rcases hb with h | h <;> rw [h] <;> decide)
  refine xm_of (by decide +kernel) (Nat.le_of_ble_eq_true rfl) ?_
  show XW _ _ 0 [(0, _), (1, _)] [] _ _
  refine xw_aload_n (pc := 0) dX2_add_0 0 rfl ?_
  refine xw_getS (b := rl) (pc := 1) fd_X2_20 dX2_add_1 (by first | assumption | (simp [-List.getD_eq_getElem?_getD, xE_setI, xsz_setI, xsl_setI, xtag_setI, xown_setI, xlen_setI, xE_setR, xsz_setR, xsl_setR, xtag_setR, xown_setR, xlen_setR, xE_setW, xsz_setW, xsl_setW, xtag_setW, xown_setW, xlen_setW, xi_setR, xi_setW, xr_setI, xr_setW, xww_setI, xww_setR, xi_setI, xr_setR, xww_setW, xE_new, xsz_new, xsl_new, p1, p3, xsub]; done) | (simp [-List.getD_eq_getElem?_getD, xE_setI, xsz_setI, xsl_setI, xtag_setI, xown_setI, xlen_setI, xE_setR, xsz_setR, xsl_setR, xtag_setR, xown_setR, xlen_setR, xE_setW, xsz_setW, xsl_setW, xtag_setW, xown_setW, xlen_setW, xi_setR, xi_setW, xr_setI, xr_setW, xww_setI, xww_setR, xi_setI, xr_setR, xww_setW, xE_new, xsz_new, xsl_new, p1, p3] <;> rfl)) (by simp [-List.getD_eq_getElem?_getD, xE_setI, xsz_setI, xsl_setI, xtag_setI, xown_setI, xlen_setI, xE_setR, xsz_setR, xsl_setR, xtag_setR, xown_setR, xlen_setR, xE_setW, xsz_setW, xsl_setW, xtag_setW, xown_setW, xlen_setW, xi_setR, xi_setW, xr_setI, xr_setW, xww_setI, xww_setR, xi_setI, xr_setR, xww_setW, xE_new, xsz_new, xsl_new, p1, p3]) ?_
  refine xw_aload_n (pc := 4) dX2_add_4 1 rfl ?_
  refine xw_callF (pc := 5) (xr_V (as := [_]) ok_J2_add rfl (by decide) q528 q529 q530 (by rw [trl]; rfl) (by rw [trl]; rfl) dX2_add_5 rfl rfl (Nat.le_of_ble_eq_true rfl)) (SP_J2_addF p6 ho (xObj_R hb) hf) ?_
  intro g5 hc5 hm5
  have tb5 : xsub 90 (xtag g5 b) = true := by rw [hc5.2.tag hlb]; exact xsub_R hb
  refine xw_pop (pc := 8) dX2_add_8 rfl ?_
  refine xw_aload_n (pc := 9) dX2_add_9 1 rfl ?_
  refine xw_getI (pc := 10) fd_X2_117 dX2_add_10 (by first | assumption | (simp [-List.getD_eq_getElem?_getD, xE_setI, xsz_setI, xsl_setI, xtag_setI, xown_setI, xlen_setI, xE_setR, xsz_setR, xsl_setR, xtag_setR, xown_setR, xlen_setR, xE_setW, xsz_setW, xsl_setW, xtag_setW, xown_setW, xlen_setW, xi_setR, xi_setW, xr_setI, xr_setW, xww_setI, xww_setR, xi_setI, xr_setR, xww_setW, xE_new, xsz_new, xsl_new, p1, p3, tb5, xsub]; done) | (simp [-List.getD_eq_getElem?_getD, xE_setI, xsz_setI, xsl_setI, xtag_setI, xown_setI, xlen_setI, xE_setR, xsz_setR, xsl_setR, xtag_setR, xown_setR, xlen_setR, xE_setW, xsz_setW, xsl_setW, xtag_setW, xown_setW, xlen_setW, xi_setR, xi_setW, xr_setI, xr_setW, xww_setI, xww_setR, xi_setI, xr_setR, xww_setW, xE_new, xsz_new, xsl_new, p1, p3, tb5] <;> rfl)) ?_
  refine xw_iret (pc := 13) .int dX2_add_13 rfl ?_ 
  rw [hc5.2.i' hlb hbo]
  exact ⟨rfl, hc5⟩

