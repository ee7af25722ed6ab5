/-! CLASS 58: what bars a draft -/
set_option maxRecDepth 100000
theorem SP_X10_isNone {d : Nat} {g : xG} {a : Nat} {v : Nat × Int32} (h : xWy g a v) : XM M_X10_isNone d [.ref a] g (xOne (some (.int (bI (decide (v.1 = 0))))) g) := by
  rcases h.2.2.2 with q | ⟨q, w, q2, -⟩
  · rw [decide_eq_true q.1]; exact SP_X10_isNone_T h.1 q.2
  · rw [decide_eq_false q]; exact SP_X10_isNone_F h.1 q2
theorem inR_lt {s n : Nat} (h : inR (nI s) (nI 0) (nI n - nI 1) = true) (hs : s < 1000) (n0 : 0 < n) (hn : n < 1000) : s < n := by
  by_cases h9 : s < n
  · exact h9
  · exfalso
    rw [nI_sub (by omega)] at h
    unfold inR at h
    rw [decide_eq_true ((nI_ltI (a := n - 1) (b := s) (by omega) (by omega)).mpr (by omega))] at h
    simp at h
theorem inR_ge {v n : Nat} (h : ¬ v < n) (hv : v < 1000) (hn : n < 1000) : inR (nI v) (nI 0) (nI n - nI 1) = false := by
  by_cases h0 : n = 0
  · subst h0
    have h1 : nI 0 - nI 1 = (-1 : Int32) := by decide
    rw [h1]
    unfold inR
    have h2 : (-1 : Int32) < nI v := by
      rw [Int32.lt_iff_toInt_lt, nI_toInt (by omega)]
      have h3 : (-1 : Int32).toInt = -1 := rfl
      rw [h3]; omega
    rw [decide_eq_true h2]
    simp
  · exact Bool.eq_false_iff.mpr (fun h9 => h (inR_lt h9 hv (by omega) hn))
def oDr (e : Nat) : Prop := e = 5
/-- what bars a draft: its exemption's rule o, its scope, its days -/
def wBa (n rr : Nat) (b1 : Bool) (o : Option Nat) (s f l : Nat) : Nat × Int32 := wThen (wAsk (wAsk (0, nI 0) b1 1 (ofV o)) (!inR (nI s) (nI 0) (nI n - nI 1)) 1 (nI s)) (hind0 rr (nI f) (nI l))
theorem wBa_s {n rr : Nat} {b1 : Bool} {o : Option Nat} {s f l : Nat} (h : (wBa n rr b1 o s f l).1 = 0) : b1 = false ∧ inR (nI s) (nI 0) (nI n - nI 1) = true := by
  unfold wBa wThen wAsk at h
  cases b1 <;> cases hb : inR (nI s) (nI 0) (nI n - nI 1) <;> simp [hb] at h ⊢
def wBb (s : Nat → Int32) (n rr : Nat) (o : Option Nat) (sc f l : Nat) : Nat × Int32 := match o with
  | none => wBa n rr false none sc f l
  | some v => if v < rr then (if (wBa n rr false (some v) sc f l).1 = 0 then wThen (wBa n rr false (some v) sc f l) (hindE s v sc) else wBa n rr false (some v) sc f l) else wBa n rr true (some v) sc f l

theorem SP_X1_bars_A {d : Nat} {g : xG} {x p lk fa ka la n rr ww : Nat} {Z : xAd} {S : xMS} (hM : xMn g x p lk fa ka la Z S n rr ww) {D tl arr s k f l : Nat} {eff : Option Nat} {ts : List Nat} (hD : xDr g D eff (-1) (nI s) (nI k) (nI f) (nI l) tl arr ts) (hs : s < 1000) (hf : f < 1000) (hl : l < 1000)  : XM M_X1_bars (d + 80) [.ref x, .ref D] g (xVal (.ref (xsz g)) (fun g' => xWy g' (xsz g) (wBb (S 1) n rr none s f l) ∧ xFr (oEq 5) 60 g g')) := by
  obtain ⟨d1, d2, d3, d4, d5, d6, d7, d8, d9, d10⟩ := hD
  have hlc := hM.P.lc
  have hlr := hM.P.lr
  have n10 := hM.P.wf.n10
  have n0 := hM.P.wf.n0
  have r16 := hM.P.wf.r16
  have hP0 := hM.P
  have dt0 : xtag g D = 16 := d1
  have do0 : xown g D = 14 := d2
  have dl0 : D < xsz g := xlt (by rw [d1]; decide)
  have di0 : ∀ j, xi g D j = xi g D j := fun _ => rfl
  have xt0 : xtag g x = 1 := hM.tx
  have xo0 : xown g x = 1 := hM.ox
  have xl0 : x < xsz g := xlt (by rw [hM.tx]; decide)
  have xp0 : xr g x 0 = some p := hM.xp
  have Fw : xFr (oEq 5) 2 g (xNew g (xBlank 8 5 1) 1) := (xFr.rf (O := oEq 5) (n := 0)).nw.sub (fun _ h => h) (by omega)
  have hWw : xWy (xNew g (xBlank 8 5 1) 1) (xsz g) (0, nI 0) := ⟨xtag_newS rfl, xown_newS rfl, by decide, Or.inl ⟨rfl, xr_newS rfl⟩⟩
  generalize hgw : (xNew g (xBlank 8 5 1) 1) = gw at Fw hWw
  have hPw := hP0.fr Fw (fun o h1 h2 => by have := hM.P.p0; unfold oP at h1; unfold oEq at h2; omega) (by unfold oEq; omega)
  have dtw : xtag gw D = 16 := (Fw.tag dl0).trans dt0
  have dow : xown gw D = 14 := (Fw.own dl0).trans do0
  have dlw := Fw.lt dl0
  have diw : ∀ j, xi gw D j = xi g D j := fun j => (Fw.i' dl0 (by rw [do0]; unfold oEq; omega)).trans (di0 j)
  have d1w : xi gw D 1 = (-1) := (diw 1).trans d4
  have d2w : xi gw D 2 = nI s := (diw 2).trans d5
  have d4w : xi gw D 4 = nI f := (diw 4).trans d7
  have d5w : xi gw D 5 = nI l := (diw 5).trans d8
  have xtw : xtag gw x = 1 := (Fw.tag xl0).trans xt0
  have xow : xown gw x = 1 := (Fw.own xl0).trans xo0
  have xlw := Fw.lt xl0
  have xpw : xr gw x 0 = some p := (Fw.r' xl0 (by rw [xo0]; unfold oEq; omega)).trans xp0
  have fqw : xr gw p 1 = some (aL Z 2) := hPw.f1
  have tqw : xtag gw p = 2 := hPw.tag
  refine xm_of (by decide +kernel) (Nat.le_of_ble_eq_true rfl) ?_
  show XW _ _ 0 [(0, _), (1, _)] [] _ _
  refine xw_aload_n (pc := 0) dX1_bars_0 1 rfl ?_
  refine xw_getI (pc := 1) fd_X1_479 dX1_bars_1 (by first | assumption | (simp [-List.getD_eq_getElem?_getD, xE_setI, xsz_setI, xsl_setI, xtag_setI, xown_setI, xlen_setI, xE_setR, xsz_setR, xsl_setR, xtag_setR, xown_setR, xlen_setR, xE_setW, xsz_setW, xsl_setW, xtag_setW, xown_setW, xlen_setW, xi_setR, xi_setW, xr_setI, xr_setW, xww_setI, xww_setR, xi_setI, xr_setR, xww_setW, xE_new, xsz_new, xsl_new, d1, d4, d5, d7, d8, xt0, xp0, hM.P.tag, dtw, d1w, d2w, d4w, d5w, xtw, xpw, fqw, tqw, xsub]; done) | (simp [-List.getD_eq_getElem?_getD, xE_setI, xsz_setI, xsl_setI, xtag_setI, xown_setI, xlen_setI, xE_setR, xsz_setR, xsl_setR, xtag_setR, xown_setR, xlen_setR, xE_setW, xsz_setW, xsl_setW, xtag_setW, xown_setW, xlen_setW, xi_setR, xi_setW, xr_setI, xr_setW, xww_setI, xww_setR, xi_setI, xr_setR, xww_setW, xE_new, xsz_new, xsl_new, d1, d4, d5, d7, d8, xt0, xp0, hM.P.tag, dtw, d1w, d2w, d4w, d5w, xtw, xpw, fqw, tqw] <;> rfl)) ?_
  refine xw_iconst (v := -1) (pc := 4) dX1_bars_4 (by decide +kernel) ?_
  refine xw_icmp_eq (pc := 5) 26 dX1_bars_5 rfl (fun hb5 => ?_) (fun hb5 => ?_)
  rotate_left
  · exfalso
    exact hb5 d4
  refine xw_iconst (v := nI 0) (pc := 26) dX1_bars_26 rfl ?_
  refine xw_istore_n (l' := [(2, _), (0, _), (1, _)]) (pc := 27) dX1_bars_27 rfl (by decide) rfl ?_
  refine xw_new (t := 8) (pc := 28) 5 dX1_bars_28 rfl (by decide) (by first | decide | assumption | omega) q1268 q1269 q127 ?_
  refine xw_at (a := (xsz g)) (by rfl) ?_
  rw [hgw]
  refine xw_dup (pc := 31) dX1_bars_31 rfl ?_
  refine xw_callU (pc := 32) (xr_IN (as := []) ok_X10_init rfl (by decide) q1270 q1271 rfl rfl dX1_bars_32 rfl rfl (Nat.le_of_ble_eq_true rfl)) (SP_X10_init) ?_
  refine xw_iload_n (pc := 35) dX1_bars_35 0 rfl ?_
  refine xw_iconst (v := nI 1) (pc := 36) dX1_bars_36 rfl ?_
  refine xw_aload_n (pc := 37) dX1_bars_37 2 rfl ?_
  refine xw_getI (pc := 38) fd_X1_479 dX1_bars_38 (by first | assumption | (simp [-List.getD_eq_getElem?_getD, xE_setI, xsz_setI, xsl_setI, xtag_setI, xown_setI, xlen_setI, xE_setR, xsz_setR, xsl_setR, xtag_setR, xown_setR, xlen_setR, xE_setW, xsz_setW, xsl_setW, xtag_setW, xown_setW, xlen_setW, xi_setR, xi_setW, xr_setI, xr_setW, xww_setI, xww_setR, xi_setI, xr_setR, xww_setW, xE_new, xsz_new, xsl_new, d1, d4, d5, d7, d8, xt0, xp0, hM.P.tag, dtw, d1w, d2w, d4w, d5w, xtw, xpw, fqw, tqw, xsub]; done) | (simp [-List.getD_eq_getElem?_getD, xE_setI, xsz_setI, xsl_setI, xtag_setI, xown_setI, xlen_setI, xE_setR, xsz_setR, xsl_setR, xtag_setR, xown_setR, xlen_setR, xE_setW, xsz_setW, xsl_setW, xtag_setW, xown_setW, xlen_setW, xi_setR, xi_setW, xr_setI, xr_setW, xww_setI, xww_setR, xi_setI, xr_setR, xww_setW, xE_new, xsz_new, xsl_new, d1, d4, d5, d7, d8, xt0, xp0, hM.P.tag, dtw, d1w, d2w, d4w, d5w, xtw, xpw, fqw, tqw] <;> rfl)) ?_
  refine xw_callF (pc := 41) (xr_V (as := [_, _, _]) ok_X10_asks rfl (by decide) q1447 q1284 q1285 (by first | (rw [hWw.1]; rfl) | (rw [hW41.1]; rfl) | (rw [hW68.1]; rfl) | (rw [hW85.1]; rfl)) (by first | (rw [hWw.1]; rfl) | (rw [hW41.1]; rfl) | (rw [hW68.1]; rfl) | (rw [hW85.1]; rfl)) dX1_bars_41 rfl rfl (Nat.le_of_ble_eq_true rfl)) (SP_X10_asks (v := (0, nI 0)) (b := false) hWw (by rfl) (by decide)) ?_
  intro g41 hc41 hm41
  obtain ⟨hW41, F41⟩ := hc41
  have hP41 := hPw.fr F41 (fun o h1 h2 => by have := hM.P.p0; unfold oP at h1; unfold oEq at h2; omega) (by unfold oEq; omega)
  have dt41 : xtag g41 D = 16 := (F41.tag dlw).trans dtw
  have do41 : xown g41 D = 14 := (F41.own dlw).trans dow
  have dl41 := F41.lt dlw
  have di41 : ∀ j, xi g41 D j = xi g D j := fun j => (F41.i' dlw (by rw [dow]; unfold oEq; omega)).trans (diw j)
  have d141 : xi g41 D 1 = (-1) := (di41 1).trans d4
  have d241 : xi g41 D 2 = nI s := (di41 2).trans d5
  have d441 : xi g41 D 4 = nI f := (di41 4).trans d7
  have d541 : xi g41 D 5 = nI l := (di41 5).trans d8
  have xt41 : xtag g41 x = 1 := (F41.tag xlw).trans xtw
  have xo41 : xown g41 x = 1 := (F41.own xlw).trans xow
  have xl41 := F41.lt xlw
  have xp41 : xr g41 x 0 = some p := (F41.r' xlw (by rw [xow]; unfold oEq; omega)).trans xpw
  have fq41 : xr g41 p 1 = some (aL Z 2) := hP41.f1
  have tq41 : xtag g41 p = 2 := hP41.tag
  refine xw_aload_n (pc := 44) dX1_bars_44 1 rfl ?_
  refine xw_getS (b := p) (pc := 45) fd_X1_10 dX1_bars_45 (by first | assumption | (simp [-List.getD_eq_getElem?_getD, xE_setI, xsz_setI, xsl_setI, xtag_setI, xown_setI, xlen_setI, xE_setR, xsz_setR, xsl_setR, xtag_setR, xown_setR, xlen_setR, xE_setW, xsz_setW, xsl_setW, xtag_setW, xown_setW, xlen_setW, xi_setR, xi_setW, xr_setI, xr_setW, xww_setI, xww_setR, xi_setI, xr_setR, xww_setW, xE_new, xsz_new, xsl_new, d1, d4, d5, d7, d8, xt0, xp0, hM.P.tag, dtw, d1w, d2w, d4w, d5w, xtw, xpw, fqw, tqw, dt41, d141, d241, d441, d541, xt41, xp41, fq41, tq41, xsub]; done) | (simp [-List.getD_eq_getElem?_getD, xE_setI, xsz_setI, xsl_setI, xtag_setI, xown_setI, xlen_setI, xE_setR, xsz_setR, xsl_setR, xtag_setR, xown_setR, xlen_setR, xE_setW, xsz_setW, xsl_setW, xtag_setW, xown_setW, xlen_setW, xi_setR, xi_setW, xr_setI, xr_setW, xww_setI, xww_setR, xi_setI, xr_setR, xww_setW, xE_new, xsz_new, xsl_new, d1, d4, d5, d7, d8, xt0, xp0, hM.P.tag, dtw, d1w, d2w, d4w, d5w, xtw, xpw, fqw, tqw, dt41, d141, d241, d441, d541, xt41, xp41, fq41, tq41] <;> rfl)) (by simp [-List.getD_eq_getElem?_getD, xE_setI, xsz_setI, xsl_setI, xtag_setI, xown_setI, xlen_setI, xE_setR, xsz_setR, xsl_setR, xtag_setR, xown_setR, xlen_setR, xE_setW, xsz_setW, xsl_setW, xtag_setW, xown_setW, xlen_setW, xi_setR, xi_setW, xr_setI, xr_setW, xww_setI, xww_setR, xi_setI, xr_setR, xww_setW, xE_new, xsz_new, xsl_new, d1, d4, d5, d7, d8, xt0, xp0, hM.P.tag, dtw, d1w, d2w, d4w, d5w, xtw, xpw, fqw, tqw, dt41, d141, d241, d441, d541, xt41, xp41, fq41, tq41]) ?_
  refine xw_aload_n (pc := 48) dX1_bars_48 2 rfl ?_
  refine xw_getNat (k := s) (pc := 49) fd_X1_483 dX1_bars_49 (by first | assumption | (simp [-List.getD_eq_getElem?_getD, xE_setI, xsz_setI, xsl_setI, xtag_setI, xown_setI, xlen_setI, xE_setR, xsz_setR, xsl_setR, xtag_setR, xown_setR, xlen_setR, xE_setW, xsz_setW, xsl_setW, xtag_setW, xown_setW, xlen_setW, xi_setR, xi_setW, xr_setI, xr_setW, xww_setI, xww_setR, xi_setI, xr_setR, xww_setW, xE_new, xsz_new, xsl_new, d1, d4, d5, d7, d8, xt0, xp0, hM.P.tag, dtw, d1w, d2w, d4w, d5w, xtw, xpw, fqw, tqw, dt41, d141, d241, d441, d541, xt41, xp41, fq41, tq41, xsub]; done) | (simp [-List.getD_eq_getElem?_getD, xE_setI, xsz_setI, xsl_setI, xtag_setI, xown_setI, xlen_setI, xE_setR, xsz_setR, xsl_setR, xtag_setR, xown_setR, xlen_setR, xE_setW, xsz_setW, xsl_setW, xtag_setW, xown_setW, xlen_setW, xi_setR, xi_setW, xr_setI, xr_setW, xww_setI, xww_setR, xi_setI, xr_setR, xww_setW, xE_new, xsz_new, xsl_new, d1, d4, d5, d7, d8, xt0, xp0, hM.P.tag, dtw, d1w, d2w, d4w, d5w, xtw, xpw, fqw, tqw, dt41, d141, d241, d441, d541, xt41, xp41, fq41, tq41] <;> rfl)) (by simp [-List.getD_eq_getElem?_getD, xE_setI, xsz_setI, xsl_setI, xtag_setI, xown_setI, xlen_setI, xE_setR, xsz_setR, xsl_setR, xtag_setR, xown_setR, xlen_setR, xE_setW, xsz_setW, xsl_setW, xtag_setW, xown_setW, xlen_setW, xi_setR, xi_setW, xr_setI, xr_setW, xww_setI, xww_setR, xi_setI, xr_setR, xww_setW, xE_new, xsz_new, xsl_new, d1, d4, d5, d7, d8, xt0, xp0, hM.P.tag, dtw, d1w, d2w, d4w, d5w, xtw, xpw, fqw, tqw, dt41, d141, d241, d441, d541, xt41, xp41, fq41, tq41]) ?_
  refine xw_callV (pc := 52) (xr_V (as := [_]) ok_X2_isScope rfl (by decide) q1251 q1061 q1062 (by first | (rw [hP0.tag]; rfl) | (rw [hP41.tag]; rfl) | (rw [hP68.tag]; rfl) | (rw [hP85.tag]; rfl)) (by first | (rw [hP0.tag]; rfl) | (rw [hP41.tag]; rfl) | (rw [hP68.tag]; rfl) | (rw [hP85.tag]; rfl)) dX1_bars_52 rfl rfl (Nat.le_of_ble_eq_true rfl)) (SP_X2_isScope hP41.pl) ?_
  refine xw_if_ne (pc := 55) 62 dX1_bars_55 rfl (fun hb55 => ?_) (fun hb55 => ?_)
  · replace hb55 := bI_n0.mp hb55
    refine xw_iconst (v := nI 0) (pc := 62) dX1_bars_62 rfl ?_
    refine xw_iconst (v := nI 1) (pc := 63) dX1_bars_63 rfl ?_
    refine xw_aload_n (pc := 64) dX1_bars_64 2 rfl ?_
    refine xw_getNat (k := s) (pc := 65) fd_X1_483 dX1_bars_65 (by first | assumption | (simp [-List.getD_eq_getElem?_getD, xE_setI, xsz_setI, xsl_setI, xtag_setI, xown_setI, xlen_setI, xE_setR, xsz_setR, xsl_setR, xtag_setR, xown_setR, xlen_setR, xE_setW, xsz_setW, xsl_setW, xtag_setW, xown_setW, xlen_setW, xi_setR, xi_setW, xr_setI, xr_setW, xww_setI, xww_setR, xi_setI, xr_setR, xww_setW, xE_new, xsz_new, xsl_new, d1, d4, d5, d7, d8, xt0, xp0, hM.P.tag, dtw, d1w, d2w, d4w, d5w, xtw, xpw, fqw, tqw, dt41, d141, d241, d441, d541, xt41, xp41, fq41, tq41, xsub]; done) | (simp [-List.getD_eq_getElem?_getD, xE_setI, xsz_setI, xsl_setI, xtag_setI, xown_setI, xlen_setI, xE_setR, xsz_setR, xsl_setR, xtag_setR, xown_setR, xlen_setR, xE_setW, xsz_setW, xsl_setW, xtag_setW, xown_setW, xlen_setW, xi_setR, xi_setW, xr_setI, xr_setW, xww_setI, xww_setR, xi_setI, xr_setR, xww_setW, xE_new, xsz_new, xsl_new, d1, d4, d5, d7, d8, xt0, xp0, hM.P.tag, dtw, d1w, d2w, d4w, d5w, xtw, xpw, fqw, tqw, dt41, d141, d241, d441, d541, xt41, xp41, fq41, tq41] <;> rfl)) (by simp [-List.getD_eq_getElem?_getD, xE_setI, xsz_setI, xsl_setI, xtag_setI, xown_setI, xlen_setI, xE_setR, xsz_setR, xsl_setR, xtag_setR, xown_setR, xlen_setR, xE_setW, xsz_setW, xsl_setW, xtag_setW, xown_setW, xlen_setW, xi_setR, xi_setW, xr_setI, xr_setW, xww_setI, xww_setR, xi_setI, xr_setR, xww_setW, xE_new, xsz_new, xsl_new, d1, d4, d5, d7, d8, xt0, xp0, hM.P.tag, dtw, d1w, d2w, d4w, d5w, xtw, xpw, fqw, tqw, dt41, d141, d241, d441, d541, xt41, xp41, fq41, tq41]) ?_
    refine xw_callF (pc := 68) (xr_V (as := [_, _, _]) ok_X10_asks rfl (by decide) q1447 q1284 q1285 (by first | (rw [hWw.1]; rfl) | (rw [hW41.1]; rfl) | (rw [hW68.1]; rfl) | (rw [hW85.1]; rfl)) (by first | (rw [hWw.1]; rfl) | (rw [hW41.1]; rfl) | (rw [hW68.1]; rfl) | (rw [hW85.1]; rfl)) dX1_bars_68 rfl rfl (Nat.le_of_ble_eq_true rfl)) (SP_X10_asks (b := false) hW41 (by rfl) (by decide)) ?_
    intro g68 hc68 hm68
    obtain ⟨hW68, F68⟩ := hc68
    have hP68 := hP41.fr F68 (fun o h1 h2 => by have := hM.P.p0; unfold oP at h1; unfold oEq at h2; omega) (by unfold oEq; omega)
    have dt68 : xtag g68 D = 16 := (F68.tag dl41).trans dt41
    have do68 : xown g68 D = 14 := (F68.own dl41).trans do41
    have dl68 := F68.lt dl41
    have di68 : ∀ j, xi g68 D j = xi g D j := fun j => (F68.i' dl41 (by rw [do41]; unfold oEq; omega)).trans (di41 j)
    have d168 : xi g68 D 1 = (-1) := (di68 1).trans d4
    have d268 : xi g68 D 2 = nI s := (di68 2).trans d5
    have d468 : xi g68 D 4 = nI f := (di68 4).trans d7
    have d568 : xi g68 D 5 = nI l := (di68 5).trans d8
    have xt68 : xtag g68 x = 1 := (F68.tag xl41).trans xt41
    have xo68 : xown g68 x = 1 := (F68.own xl41).trans xo41
    have xl68 := F68.lt xl41
    have xp68 : xr g68 x 0 = some p := (F68.r' xl41 (by rw [xo41]; unfold oEq; omega)).trans xp41
    have fq68 : xr g68 p 1 = some (aL Z 2) := hP68.f1
    have tq68 : xtag g68 p = 2 := hP68.tag
    refine xw_astore_n (l' := [(3, _), (2, _), (0, _), (1, _)]) (pc := 71) dX1_bars_71 rfl (by decide) rfl ?_
    refine xw_aload_n (pc := 72) dX1_bars_72 2 rfl ?_
    refine xw_getS (b := p) (pc := 73) fd_X1_10 dX1_bars_73 (by first | assumption | (simp [-List.getD_eq_getElem?_getD, xE_setI, xsz_setI, xsl_setI, xtag_setI, xown_setI, xlen_setI, xE_setR, xsz_setR, xsl_setR, xtag_setR, xown_setR, xlen_setR, xE_setW, xsz_setW, xsl_setW, xtag_setW, xown_setW, xlen_setW, xi_setR, xi_setW, xr_setI, xr_setW, xww_setI, xww_setR, xi_setI, xr_setR, xww_setW, xE_new, xsz_new, xsl_new, d1, d4, d5, d7, d8, xt0, xp0, hM.P.tag, dtw, d1w, d2w, d4w, d5w, xtw, xpw, fqw, tqw, dt41, d141, d241, d441, d541, xt41, xp41, fq41, tq41, dt68, d168, d268, d468, d568, xt68, xp68, fq68, tq68, xsub]; done) | (simp [-List.getD_eq_getElem?_getD, xE_setI, xsz_setI, xsl_setI, xtag_setI, xown_setI, xlen_setI, xE_setR, xsz_setR, xsl_setR, xtag_setR, xown_setR, xlen_setR, xE_setW, xsz_setW, xsl_setW, xtag_setW, xown_setW, xlen_setW, xi_setR, xi_setW, xr_setI, xr_setW, xww_setI, xww_setR, xi_setI, xr_setR, xww_setW, xE_new, xsz_new, xsl_new, d1, d4, d5, d7, d8, xt0, xp0, hM.P.tag, dtw, d1w, d2w, d4w, d5w, xtw, xpw, fqw, tqw, dt41, d141, d241, d441, d541, xt41, xp41, fq41, tq41, dt68, d168, d268, d468, d568, xt68, xp68, fq68, tq68] <;> rfl)) (by simp [-List.getD_eq_getElem?_getD, xE_setI, xsz_setI, xsl_setI, xtag_setI, xown_setI, xlen_setI, xE_setR, xsz_setR, xsl_setR, xtag_setR, xown_setR, xlen_setR, xE_setW, xsz_setW, xsl_setW, xtag_setW, xown_setW, xlen_setW, xi_setR, xi_setW, xr_setI, xr_setW, xww_setI, xww_setR, xi_setI, xr_setR, xww_setW, xE_new, xsz_new, xsl_new, d1, d4, d5, d7, d8, xt0, xp0, hM.P.tag, dtw, d1w, d2w, d4w, d5w, xtw, xpw, fqw, tqw, dt41, d141, d241, d441, d541, xt41, xp41, fq41, tq41, dt68, d168, d268, d468, d568, xt68, xp68, fq68, tq68]) ?_
    refine xw_aload_n (pc := 76) dX1_bars_76 0 rfl ?_
    refine xw_aload_n (pc := 77) dX1_bars_77 3 rfl ?_
    refine xw_getNat (k := f) (pc := 78) fd_X1_484 dX1_bars_78 (by first | assumption | (simp [-List.getD_eq_getElem?_getD, xE_setI, xsz_setI, xsl_setI, xtag_setI, xown_setI, xlen_setI, xE_setR, xsz_setR, xsl_setR, xtag_setR, xown_setR, xlen_setR, xE_setW, xsz_setW, xsl_setW, xtag_setW, xown_setW, xlen_setW, xi_setR, xi_setW, xr_setI, xr_setW, xww_setI, xww_setR, xi_setI, xr_setR, xww_setW, xE_new, xsz_new, xsl_new, d1, d4, d5, d7, d8, xt0, xp0, hM.P.tag, dtw, d1w, d2w, d4w, d5w, xtw, xpw, fqw, tqw, dt41, d141, d241, d441, d541, xt41, xp41, fq41, tq41, dt68, d168, d268, d468, d568, xt68, xp68, fq68, tq68, xsub]; done) | (simp [-List.getD_eq_getElem?_getD, xE_setI, xsz_setI, xsl_setI, xtag_setI, xown_setI, xlen_setI, xE_setR, xsz_setR, xsl_setR, xtag_setR, xown_setR, xlen_setR, xE_setW, xsz_setW, xsl_setW, xtag_setW, xown_setW, xlen_setW, xi_setR, xi_setW, xr_setI, xr_setW, xww_setI, xww_setR, xi_setI, xr_setR, xww_setW, xE_new, xsz_new, xsl_new, d1, d4, d5, d7, d8, xt0, xp0, hM.P.tag, dtw, d1w, d2w, d4w, d5w, xtw, xpw, fqw, tqw, dt41, d141, d241, d441, d541, xt41, xp41, fq41, tq41, dt68, d168, d268, d468, d568, xt68, xp68, fq68, tq68] <;> rfl)) (by simp [-List.getD_eq_getElem?_getD, xE_setI, xsz_setI, xsl_setI, xtag_setI, xown_setI, xlen_setI, xE_setR, xsz_setR, xsl_setR, xtag_setR, xown_setR, xlen_setR, xE_setW, xsz_setW, xsl_setW, xtag_setW, xown_setW, xlen_setW, xi_setR, xi_setW, xr_setI, xr_setW, xww_setI, xww_setR, xi_setI, xr_setR, xww_setW, xE_new, xsz_new, xsl_new, d1, d4, d5, d7, d8, xt0, xp0, hM.P.tag, dtw, d1w, d2w, d4w, d5w, xtw, xpw, fqw, tqw, dt41, d141, d241, d441, d541, xt41, xp41, fq41, tq41, dt68, d168, d268, d468, d568, xt68, xp68, fq68, tq68]) ?_
    refine xw_aload_n (pc := 81) dX1_bars_81 3 rfl ?_
    refine xw_getNat (k := l) (pc := 82) fd_X1_485 dX1_bars_82 (by first | assumption | (simp [-List.getD_eq_getElem?_getD, xE_setI, xsz_setI, xsl_setI, xtag_setI, xown_setI, xlen_setI, xE_setR, xsz_setR, xsl_setR, xtag_setR, xown_setR, xlen_setR, xE_setW, xsz_setW, xsl_setW, xtag_setW, xown_setW, xlen_setW, xi_setR, xi_setW, xr_setI, xr_setW, xww_setI, xww_setR, xi_setI, xr_setR, xww_setW, xE_new, xsz_new, xsl_new, d1, d4, d5, d7, d8, xt0, xp0, hM.P.tag, dtw, d1w, d2w, d4w, d5w, xtw, xpw, fqw, tqw, dt41, d141, d241, d441, d541, xt41, xp41, fq41, tq41, dt68, d168, d268, d468, d568, xt68, xp68, fq68, tq68, xsub]; done) | (simp [-List.getD_eq_getElem?_getD, xE_setI, xsz_setI, xsl_setI, xtag_setI, xown_setI, xlen_setI, xE_setR, xsz_setR, xsl_setR, xtag_setR, xown_setR, xlen_setR, xE_setW, xsz_setW, xsl_setW, xtag_setW, xown_setW, xlen_setW, xi_setR, xi_setW, xr_setI, xr_setW, xww_setI, xww_setR, xi_setI, xr_setR, xww_setW, xE_new, xsz_new, xsl_new, d1, d4, d5, d7, d8, xt0, xp0, hM.P.tag, dtw, d1w, d2w, d4w, d5w, xtw, xpw, fqw, tqw, dt41, d141, d241, d441, d541, xt41, xp41, fq41, tq41, dt68, d168, d268, d468, d568, xt68, xp68, fq68, tq68] <;> rfl)) (by simp [-List.getD_eq_getElem?_getD, xE_setI, xsz_setI, xsl_setI, xtag_setI, xown_setI, xlen_setI, xE_setR, xsz_setR, xsl_setR, xtag_setR, xown_setR, xlen_setR, xE_setW, xsz_setW, xsl_setW, xtag_setW, xown_setW, xlen_setW, xi_setR, xi_setW, xr_setI, xr_setW, xww_setI, xww_setR, xi_setI, xr_setR, xww_setW, xE_new, xsz_new, xsl_new, d1, d4, d5, d7, d8, xt0, xp0, hM.P.tag, dtw, d1w, d2w, d4w, d5w, xtw, xpw, fqw, tqw, dt41, d141, d241, d441, d541, xt41, xp41, fq41, tq41, dt68, d168, d268, d468, d568, xt68, xp68, fq68, tq68]) ?_
    refine xw_callF (pc := 85) (xr_V (as := [_, _, _]) ok_X2_barsRule rfl (by decide) q1279 q1280 q1281 (by first | (rw [hP0.tag]; rfl) | (rw [hP41.tag]; rfl) | (rw [hP68.tag]; rfl) | (rw [hP85.tag]; rfl)) (by first | (rw [hP0.tag]; rfl) | (rw [hP41.tag]; rfl) | (rw [hP68.tag]; rfl) | (rw [hP85.tag]; rfl)) dX1_bars_85 rfl rfl (Nat.le_of_ble_eq_true rfl)) (SP_X2_barsRule hP68.pl hW68) ?_
    intro g85 hc85 hm85
    obtain ⟨hW85, F85⟩ := hc85
    have hP85 := hP68.fr F85 (fun o h1 h2 => by have := hM.P.p0; unfold oP at h1; unfold oEq at h2; omega) (by unfold oEq; omega)
    have dt85 : xtag g85 D = 16 := (F85.tag dl68).trans dt68
    have do85 : xown g85 D = 14 := (F85.own dl68).trans do68
    have dl85 := F85.lt dl68
    have di85 : ∀ j, xi g85 D j = xi g D j := fun j => (F85.i' dl68 (by rw [do68]; unfold oEq; omega)).trans (di68 j)
    have d185 : xi g85 D 1 = (-1) := (di85 1).trans d4
    have d285 : xi g85 D 2 = nI s := (di85 2).trans d5
    have d485 : xi g85 D 4 = nI f := (di85 4).trans d7
    have d585 : xi g85 D 5 = nI l := (di85 5).trans d8
    have xt85 : xtag g85 x = 1 := (F85.tag xl68).trans xt68
    have xo85 : xown g85 x = 1 := (F85.own xl68).trans xo68
    have xl85 := F85.lt xl68
    have xp85 : xr g85 x 0 = some p := (F85.r' xl68 (by rw [xo68]; unfold oEq; omega)).trans xp68
    have fq85 : xr g85 p 1 = some (aL Z 2) := hP85.f1
    have tq85 : xtag g85 p = 2 := hP85.tag
    have hWB : xWy g85 (xsz g) (wBa n rr false none s f l) := by
      unfold wBa
      rw [hlc] at hb55
      rw [hb55, ← hlr]
      exact hW85
    refine xw_pop (pc := 88) dX1_bars_88 rfl ?_
    refine xw_aload_n (pc := 89) dX1_bars_89 0 rfl ?_
    refine xw_callV (pc := 90) (xr_V (as := []) ok_X10_isNone rfl (by decide) q1306 q1307 q1308 (by first | (rw [hWw.1]; rfl) | (rw [hW41.1]; rfl) | (rw [hW68.1]; rfl) | (rw [hW85.1]; rfl)) (by first | (rw [hWw.1]; rfl) | (rw [hW41.1]; rfl) | (rw [hW68.1]; rfl) | (rw [hW85.1]; rfl)) dX1_bars_90 rfl rfl (Nat.le_of_ble_eq_true rfl)) (SP_X10_isNone hWB) ?_
    refine xw_if_eq (pc := 93) 136 dX1_bars_93 rfl (fun hb93 => ?_) (fun hb93 => ?_)
    · replace hb93 := bI_0.mp hb93
      refine xw_aload_n (pc := 136) dX1_bars_136 0 rfl ?_
      refine xw_aret (pc := 137) (.object "PolicyNotation$Whys") dX1_bars_137 rfl ?_
      exact ⟨rfl, hWB, ((((Fw.tr F41).tr F68).tr F85).sub (fun _ h => h) (by omega))⟩
    · replace hb93 := bI_n0.mp hb93
      refine xw_aload_n (pc := 96) dX1_bars_96 3 rfl ?_
      refine xw_getI (pc := 97) fd_X1_479 dX1_bars_97 (by first | assumption | (simp [-List.getD_eq_getElem?_getD, xE_setI, xsz_setI, xsl_setI, xtag_setI, xown_setI, xlen_setI, xE_setR, xsz_setR, xsl_setR, xtag_setR, xown_setR, xlen_setR, xE_setW, xsz_setW, xsl_setW, xtag_setW, xown_setW, xlen_setW, xi_setR, xi_setW, xr_setI, xr_setW, xww_setI, xww_setR, xi_setI, xr_setR, xww_setW, xE_new, xsz_new, xsl_new, d1, d4, d5, d7, d8, xt0, xp0, hM.P.tag, dtw, d1w, d2w, d4w, d5w, xtw, xpw, fqw, tqw, dt41, d141, d241, d441, d541, xt41, xp41, fq41, tq41, dt68, d168, d268, d468, d568, xt68, xp68, fq68, tq68, dt85, d185, d285, d485, d585, xt85, xp85, fq85, tq85, xsub]; done) | (simp [-List.getD_eq_getElem?_getD, xE_setI, xsz_setI, xsl_setI, xtag_setI, xown_setI, xlen_setI, xE_setR, xsz_setR, xsl_setR, xtag_setR, xown_setR, xlen_setR, xE_setW, xsz_setW, xsl_setW, xtag_setW, xown_setW, xlen_setW, xi_setR, xi_setW, xr_setI, xr_setW, xww_setI, xww_setR, xi_setI, xr_setR, xww_setW, xE_new, xsz_new, xsl_new, d1, d4, d5, d7, d8, xt0, xp0, hM.P.tag, dtw, d1w, d2w, d4w, d5w, xtw, xpw, fqw, tqw, dt41, d141, d241, d441, d541, xt41, xp41, fq41, tq41, dt68, d168, d268, d468, d568, xt68, xp68, fq68, tq68, dt85, d185, d285, d485, d585, xt85, xp85, fq85, tq85] <;> rfl)) ?_
      refine xw_iconst (v := -1) (pc := 100) dX1_bars_100 (by decide +kernel) ?_
      refine xw_icmp_eq (pc := 101) 136 dX1_bars_101 rfl (fun hb101 => ?_) (fun hb101 => ?_)
      rotate_left
      · exfalso
        exact hb101 d185
      refine xw_aload_n (pc := 136) dX1_bars_136 0 rfl ?_
      refine xw_aret (pc := 137) (.object "PolicyNotation$Whys") dX1_bars_137 rfl ?_
      exact ⟨rfl, hWB, ((((Fw.tr F41).tr F68).tr F85).sub (fun _ h => h) (by omega))⟩
  · replace hb55 := bI_0.mp hb55
    refine xw_iconst (v := nI 1) (pc := 58) dX1_bars_58 rfl ?_
    refine xw_goto (pc := 59) 63 dX1_bars_59 rfl ?_
    refine xw_iconst (v := nI 1) (pc := 63) dX1_bars_63 rfl ?_
    refine xw_aload_n (pc := 64) dX1_bars_64 2 rfl ?_
    refine xw_getNat (k := s) (pc := 65) fd_X1_483 dX1_bars_65 (by first | assumption | (simp [-List.getD_eq_getElem?_getD, xE_setI, xsz_setI, xsl_setI, xtag_setI, xown_setI, xlen_setI, xE_setR, xsz_setR, xsl_setR, xtag_setR, xown_setR, xlen_setR, xE_setW, xsz_setW, xsl_setW, xtag_setW, xown_setW, xlen_setW, xi_setR, xi_setW, xr_setI, xr_setW, xww_setI, xww_setR, xi_setI, xr_setR, xww_setW, xE_new, xsz_new, xsl_new, d1, d4, d5, d7, d8, xt0, xp0, hM.P.tag, dtw, d1w, d2w, d4w, d5w, xtw, xpw, fqw, tqw, dt41, d141, d241, d441, d541, xt41, xp41, fq41, tq41, xsub]; done) | (simp [-List.getD_eq_getElem?_getD, xE_setI, xsz_setI, xsl_setI, xtag_setI, xown_setI, xlen_setI, xE_setR, xsz_setR, xsl_setR, xtag_setR, xown_setR, xlen_setR, xE_setW, xsz_setW, xsl_setW, xtag_setW, xown_setW, xlen_setW, xi_setR, xi_setW, xr_setI, xr_setW, xww_setI, xww_setR, xi_setI, xr_setR, xww_setW, xE_new, xsz_new, xsl_new, d1, d4, d5, d7, d8, xt0, xp0, hM.P.tag, dtw, d1w, d2w, d4w, d5w, xtw, xpw, fqw, tqw, dt41, d141, d241, d441, d541, xt41, xp41, fq41, tq41] <;> rfl)) (by simp [-List.getD_eq_getElem?_getD, xE_setI, xsz_setI, xsl_setI, xtag_setI, xown_setI, xlen_setI, xE_setR, xsz_setR, xsl_setR, xtag_setR, xown_setR, xlen_setR, xE_setW, xsz_setW, xsl_setW, xtag_setW, xown_setW, xlen_setW, xi_setR, xi_setW, xr_setI, xr_setW, xww_setI, xww_setR, xi_setI, xr_setR, xww_setW, xE_new, xsz_new, xsl_new, d1, d4, d5, d7, d8, xt0, xp0, hM.P.tag, dtw, d1w, d2w, d4w, d5w, xtw, xpw, fqw, tqw, dt41, d141, d241, d441, d541, xt41, xp41, fq41, tq41]) ?_
    refine xw_callF (pc := 68) (xr_V (as := [_, _, _]) ok_X10_asks rfl (by decide) q1447 q1284 q1285 (by first | (rw [hWw.1]; rfl) | (rw [hW41.1]; rfl) | (rw [hW68.1]; rfl) | (rw [hW85.1]; rfl)) (by first | (rw [hWw.1]; rfl) | (rw [hW41.1]; rfl) | (rw [hW68.1]; rfl) | (rw [hW85.1]; rfl)) dX1_bars_68 rfl rfl (Nat.le_of_ble_eq_true rfl)) (SP_X10_asks (b := true) hW41 (by rfl) (by decide)) ?_
    intro g68 hc68 hm68
    obtain ⟨hW68, F68⟩ := hc68
    have hP68 := hP41.fr F68 (fun o h1 h2 => by have := hM.P.p0; unfold oP at h1; unfold oEq at h2; omega) (by unfold oEq; omega)
    have dt68 : xtag g68 D = 16 := (F68.tag dl41).trans dt41
    have do68 : xown g68 D = 14 := (F68.own dl41).trans do41
    have dl68 := F68.lt dl41
    have di68 : ∀ j, xi g68 D j = xi g D j := fun j => (F68.i' dl41 (by rw [do41]; unfold oEq; omega)).trans (di41 j)
    have d168 : xi g68 D 1 = (-1) := (di68 1).trans d4
    have d268 : xi g68 D 2 = nI s := (di68 2).trans d5
    have d468 : xi g68 D 4 = nI f := (di68 4).trans d7
    have d568 : xi g68 D 5 = nI l := (di68 5).trans d8
    have xt68 : xtag g68 x = 1 := (F68.tag xl41).trans xt41
    have xo68 : xown g68 x = 1 := (F68.own xl41).trans xo41
    have xl68 := F68.lt xl41
    have xp68 : xr g68 x 0 = some p := (F68.r' xl41 (by rw [xo41]; unfold oEq; omega)).trans xp41
    have fq68 : xr g68 p 1 = some (aL Z 2) := hP68.f1
    have tq68 : xtag g68 p = 2 := hP68.tag
    refine xw_astore_n (l' := [(3, _), (2, _), (0, _), (1, _)]) (pc := 71) dX1_bars_71 rfl (by decide) rfl ?_
    refine xw_aload_n (pc := 72) dX1_bars_72 2 rfl ?_
    refine xw_getS (b := p) (pc := 73) fd_X1_10 dX1_bars_73 (by first | assumption | (simp [-List.getD_eq_getElem?_getD, xE_setI, xsz_setI, xsl_setI, xtag_setI, xown_setI, xlen_setI, xE_setR, xsz_setR, xsl_setR, xtag_setR, xown_setR, xlen_setR, xE_setW, xsz_setW, xsl_setW, xtag_setW, xown_setW, xlen_setW, xi_setR, xi_setW, xr_setI, xr_setW, xww_setI, xww_setR, xi_setI, xr_setR, xww_setW, xE_new, xsz_new, xsl_new, d1, d4, d5, d7, d8, xt0, xp0, hM.P.tag, dtw, d1w, d2w, d4w, d5w, xtw, xpw, fqw, tqw, dt41, d141, d241, d441, d541, xt41, xp41, fq41, tq41, dt68, d168, d268, d468, d568, xt68, xp68, fq68, tq68, xsub]; done) | (simp [-List.getD_eq_getElem?_getD, xE_setI, xsz_setI, xsl_setI, xtag_setI, xown_setI, xlen_setI, xE_setR, xsz_setR, xsl_setR, xtag_setR, xown_setR, xlen_setR, xE_setW, xsz_setW, xsl_setW, xtag_setW, xown_setW, xlen_setW, xi_setR, xi_setW, xr_setI, xr_setW, xww_setI, xww_setR, xi_setI, xr_setR, xww_setW, xE_new, xsz_new, xsl_new, d1, d4, d5, d7, d8, xt0, xp0, hM.P.tag, dtw, d1w, d2w, d4w, d5w, xtw, xpw, fqw, tqw, dt41, d141, d241, d441, d541, xt41, xp41, fq41, tq41, dt68, d168, d268, d468, d568, xt68, xp68, fq68, tq68] <;> rfl)) (by simp [-List.getD_eq_getElem?_getD, xE_setI, xsz_setI, xsl_setI, xtag_setI, xown_setI, xlen_setI, xE_setR, xsz_setR, xsl_setR, xtag_setR, xown_setR, xlen_setR, xE_setW, xsz_setW, xsl_setW, xtag_setW, xown_setW, xlen_setW, xi_setR, xi_setW, xr_setI, xr_setW, xww_setI, xww_setR, xi_setI, xr_setR, xww_setW, xE_new, xsz_new, xsl_new, d1, d4, d5, d7, d8, xt0, xp0, hM.P.tag, dtw, d1w, d2w, d4w, d5w, xtw, xpw, fqw, tqw, dt41, d141, d241, d441, d541, xt41, xp41, fq41, tq41, dt68, d168, d268, d468, d568, xt68, xp68, fq68, tq68]) ?_
    refine xw_aload_n (pc := 76) dX1_bars_76 0 rfl ?_
    refine xw_aload_n (pc := 77) dX1_bars_77 3 rfl ?_
    refine xw_getNat (k := f) (pc := 78) fd_X1_484 dX1_bars_78 (by first | assumption | (simp [-List.getD_eq_getElem?_getD, xE_setI, xsz_setI, xsl_setI, xtag_setI, xown_setI, xlen_setI, xE_setR, xsz_setR, xsl_setR, xtag_setR, xown_setR, xlen_setR, xE_setW, xsz_setW, xsl_setW, xtag_setW, xown_setW, xlen_setW, xi_setR, xi_setW, xr_setI, xr_setW, xww_setI, xww_setR, xi_setI, xr_setR, xww_setW, xE_new, xsz_new, xsl_new, d1, d4, d5, d7, d8, xt0, xp0, hM.P.tag, dtw, d1w, d2w, d4w, d5w, xtw, xpw, fqw, tqw, dt41, d141, d241, d441, d541, xt41, xp41, fq41, tq41, dt68, d168, d268, d468, d568, xt68, xp68, fq68, tq68, xsub]; done) | (simp [-List.getD_eq_getElem?_getD, xE_setI, xsz_setI, xsl_setI, xtag_setI, xown_setI, xlen_setI, xE_setR, xsz_setR, xsl_setR, xtag_setR, xown_setR, xlen_setR, xE_setW, xsz_setW, xsl_setW, xtag_setW, xown_setW, xlen_setW, xi_setR, xi_setW, xr_setI, xr_setW, xww_setI, xww_setR, xi_setI, xr_setR, xww_setW, xE_new, xsz_new, xsl_new, d1, d4, d5, d7, d8, xt0, xp0, hM.P.tag, dtw, d1w, d2w, d4w, d5w, xtw, xpw, fqw, tqw, dt41, d141, d241, d441, d541, xt41, xp41, fq41, tq41, dt68, d168, d268, d468, d568, xt68, xp68, fq68, tq68] <;> rfl)) (by simp [-List.getD_eq_getElem?_getD, xE_setI, xsz_setI, xsl_setI, xtag_setI, xown_setI, xlen_setI, xE_setR, xsz_setR, xsl_setR, xtag_setR, xown_setR, xlen_setR, xE_setW, xsz_setW, xsl_setW, xtag_setW, xown_setW, xlen_setW, xi_setR, xi_setW, xr_setI, xr_setW, xww_setI, xww_setR, xi_setI, xr_setR, xww_setW, xE_new, xsz_new, xsl_new, d1, d4, d5, d7, d8, xt0, xp0, hM.P.tag, dtw, d1w, d2w, d4w, d5w, xtw, xpw, fqw, tqw, dt41, d141, d241, d441, d541, xt41, xp41, fq41, tq41, dt68, d168, d268, d468, d568, xt68, xp68, fq68, tq68]) ?_
    refine xw_aload_n (pc := 81) dX1_bars_81 3 rfl ?_
    refine xw_getNat (k := l) (pc := 82) fd_X1_485 dX1_bars_82 (by first | assumption | (simp [-List.getD_eq_getElem?_getD, xE_setI, xsz_setI, xsl_setI, xtag_setI, xown_setI, xlen_setI, xE_setR, xsz_setR, xsl_setR, xtag_setR, xown_setR, xlen_setR, xE_setW, xsz_setW, xsl_setW, xtag_setW, xown_setW, xlen_setW, xi_setR, xi_setW, xr_setI, xr_setW, xww_setI, xww_setR, xi_setI, xr_setR, xww_setW, xE_new, xsz_new, xsl_new, d1, d4, d5, d7, d8, xt0, xp0, hM.P.tag, dtw, d1w, d2w, d4w, d5w, xtw, xpw, fqw, tqw, dt41, d141, d241, d441, d541, xt41, xp41, fq41, tq41, dt68, d168, d268, d468, d568, xt68, xp68, fq68, tq68, xsub]; done) | (simp [-List.getD_eq_getElem?_getD, xE_setI, xsz_setI, xsl_setI, xtag_setI, xown_setI, xlen_setI, xE_setR, xsz_setR, xsl_setR, xtag_setR, xown_setR, xlen_setR, xE_setW, xsz_setW, xsl_setW, xtag_setW, xown_setW, xlen_setW, xi_setR, xi_setW, xr_setI, xr_setW, xww_setI, xww_setR, xi_setI, xr_setR, xww_setW, xE_new, xsz_new, xsl_new, d1, d4, d5, d7, d8, xt0, xp0, hM.P.tag, dtw, d1w, d2w, d4w, d5w, xtw, xpw, fqw, tqw, dt41, d141, d241, d441, d541, xt41, xp41, fq41, tq41, dt68, d168, d268, d468, d568, xt68, xp68, fq68, tq68] <;> rfl)) (by simp [-List.getD_eq_getElem?_getD, xE_setI, xsz_setI, xsl_setI, xtag_setI, xown_setI, xlen_setI, xE_setR, xsz_setR, xsl_setR, xtag_setR, xown_setR, xlen_setR, xE_setW, xsz_setW, xsl_setW, xtag_setW, xown_setW, xlen_setW, xi_setR, xi_setW, xr_setI, xr_setW, xww_setI, xww_setR, xi_setI, xr_setR, xww_setW, xE_new, xsz_new, xsl_new, d1, d4, d5, d7, d8, xt0, xp0, hM.P.tag, dtw, d1w, d2w, d4w, d5w, xtw, xpw, fqw, tqw, dt41, d141, d241, d441, d541, xt41, xp41, fq41, tq41, dt68, d168, d268, d468, d568, xt68, xp68, fq68, tq68]) ?_
    refine xw_callF (pc := 85) (xr_V (as := [_, _, _]) ok_X2_barsRule rfl (by decide) q1279 q1280 q1281 (by first | (rw [hP0.tag]; rfl) | (rw [hP41.tag]; rfl) | (rw [hP68.tag]; rfl) | (rw [hP85.tag]; rfl)) (by first | (rw [hP0.tag]; rfl) | (rw [hP41.tag]; rfl) | (rw [hP68.tag]; rfl) | (rw [hP85.tag]; rfl)) dX1_bars_85 rfl rfl (Nat.le_of_ble_eq_true rfl)) (SP_X2_barsRule hP68.pl hW68) ?_
    intro g85 hc85 hm85
    obtain ⟨hW85, F85⟩ := hc85
    have hP85 := hP68.fr F85 (fun o h1 h2 => by have := hM.P.p0; unfold oP at h1; unfold oEq at h2; omega) (by unfold oEq; omega)
    have dt85 : xtag g85 D = 16 := (F85.tag dl68).trans dt68
    have do85 : xown g85 D = 14 := (F85.own dl68).trans do68
    have dl85 := F85.lt dl68
    have di85 : ∀ j, xi g85 D j = xi g D j := fun j => (F85.i' dl68 (by rw [do68]; unfold oEq; omega)).trans (di68 j)
    have d185 : xi g85 D 1 = (-1) := (di85 1).trans d4
    have d285 : xi g85 D 2 = nI s := (di85 2).trans d5
    have d485 : xi g85 D 4 = nI f := (di85 4).trans d7
    have d585 : xi g85 D 5 = nI l := (di85 5).trans d8
    have xt85 : xtag g85 x = 1 := (F85.tag xl68).trans xt68
    have xo85 : xown g85 x = 1 := (F85.own xl68).trans xo68
    have xl85 := F85.lt xl68
    have xp85 : xr g85 x 0 = some p := (F85.r' xl68 (by rw [xo68]; unfold oEq; omega)).trans xp68
    have fq85 : xr g85 p 1 = some (aL Z 2) := hP85.f1
    have tq85 : xtag g85 p = 2 := hP85.tag
    have hWB : xWy g85 (xsz g) (wBa n rr false none s f l) := by
      unfold wBa
      rw [hlc] at hb55
      rw [hb55, ← hlr]
      exact hW85
    refine xw_pop (pc := 88) dX1_bars_88 rfl ?_
    refine xw_aload_n (pc := 89) dX1_bars_89 0 rfl ?_
    refine xw_callV (pc := 90) (xr_V (as := []) ok_X10_isNone rfl (by decide) q1306 q1307 q1308 (by first | (rw [hWw.1]; rfl) | (rw [hW41.1]; rfl) | (rw [hW68.1]; rfl) | (rw [hW85.1]; rfl)) (by first | (rw [hWw.1]; rfl) | (rw [hW41.1]; rfl) | (rw [hW68.1]; rfl) | (rw [hW85.1]; rfl)) dX1_bars_90 rfl rfl (Nat.le_of_ble_eq_true rfl)) (SP_X10_isNone hWB) ?_
    refine xw_if_eq (pc := 93) 136 dX1_bars_93 rfl (fun hb93 => ?_) (fun hb93 => ?_)
    · replace hb93 := bI_0.mp hb93
      refine xw_aload_n (pc := 136) dX1_bars_136 0 rfl ?_
      refine xw_aret (pc := 137) (.object "PolicyNotation$Whys") dX1_bars_137 rfl ?_
      exact ⟨rfl, hWB, ((((Fw.tr F41).tr F68).tr F85).sub (fun _ h => h) (by omega))⟩
    · replace hb93 := bI_n0.mp hb93
      refine xw_aload_n (pc := 96) dX1_bars_96 3 rfl ?_
      refine xw_getI (pc := 97) fd_X1_479 dX1_bars_97 (by first | assumption | (simp [-List.getD_eq_getElem?_getD, xE_setI, xsz_setI, xsl_setI, xtag_setI, xown_setI, xlen_setI, xE_setR, xsz_setR, xsl_setR, xtag_setR, xown_setR, xlen_setR, xE_setW, xsz_setW, xsl_setW, xtag_setW, xown_setW, xlen_setW, xi_setR, xi_setW, xr_setI, xr_setW, xww_setI, xww_setR, xi_setI, xr_setR, xww_setW, xE_new, xsz_new, xsl_new, d1, d4, d5, d7, d8, xt0, xp0, hM.P.tag, dtw, d1w, d2w, d4w, d5w, xtw, xpw, fqw, tqw, dt41, d141, d241, d441, d541, xt41, xp41, fq41, tq41, dt68, d168, d268, d468, d568, xt68, xp68, fq68, tq68, dt85, d185, d285, d485, d585, xt85, xp85, fq85, tq85, xsub]; done) | (simp [-List.getD_eq_getElem?_getD, xE_setI, xsz_setI, xsl_setI, xtag_setI, xown_setI, xlen_setI, xE_setR, xsz_setR, xsl_setR, xtag_setR, xown_setR, xlen_setR, xE_setW, xsz_setW, xsl_setW, xtag_setW, xown_setW, xlen_setW, xi_setR, xi_setW, xr_setI, xr_setW, xww_setI, xww_setR, xi_setI, xr_setR, xww_setW, xE_new, xsz_new, xsl_new, d1, d4, d5, d7, d8, xt0, xp0, hM.P.tag, dtw, d1w, d2w, d4w, d5w, xtw, xpw, fqw, tqw, dt41, d141, d241, d441, d541, xt41, xp41, fq41, tq41, dt68, d168, d268, d468, d568, xt68, xp68, fq68, tq68, dt85, d185, d285, d485, d585, xt85, xp85, fq85, tq85] <;> rfl)) ?_
      refine xw_iconst (v := -1) (pc := 100) dX1_bars_100 (by decide +kernel) ?_
      refine xw_icmp_eq (pc := 101) 136 dX1_bars_101 rfl (fun hb101 => ?_) (fun hb101 => ?_)
      rotate_left
      · exfalso
        exact hb101 d185
      refine xw_aload_n (pc := 136) dX1_bars_136 0 rfl ?_
      refine xw_aret (pc := 137) (.object "PolicyNotation$Whys") dX1_bars_137 rfl ?_
      exact ⟨rfl, hWB, ((((Fw.tr F41).tr F68).tr F85).sub (fun _ h => h) (by omega))⟩

theorem SP_X1_bars_B {d : Nat} {g : xG} {x p lk fa ka la n rr ww : Nat} {Z : xAd} {S : xMS} (hM : xMn g x p lk fa ka la Z S n rr ww) {D tl arr s k f l v : Nat} {eff : Option Nat} {ts : List Nat} (hD : xDr g D eff (nI v) (nI s) (nI k) (nI f) (nI l) tl arr ts) (hs : s < 1000) (hf : f < 1000) (hl : l < 1000) (hv : v < rr) : XM M_X1_bars (d + 80) [.ref x, .ref D] g (xVal (.ref (xsz g)) (fun g' => xWy g' (xsz g) (wBb (S 1) n rr (some v) s f l) ∧ xFr (oEq 5) 60 g g')) := by
  obtain ⟨d1, d2, d3, d4, d5, d6, d7, d8, d9, d10⟩ := hD
  have hlc := hM.P.lc
  have hlr := hM.P.lr
  have n10 := hM.P.wf.n10
  have n0 := hM.P.wf.n0
  have r16 := hM.P.wf.r16
  have hP0 := hM.P
  have dt0 : xtag g D = 16 := d1
  have do0 : xown g D = 14 := d2
  have dl0 : D < xsz g := xlt (by rw [d1]; decide)
  have di0 : ∀ j, xi g D j = xi g D j := fun _ => rfl
  have xt0 : xtag g x = 1 := hM.tx
  have xo0 : xown g x = 1 := hM.ox
  have xl0 : x < xsz g := xlt (by rw [hM.tx]; decide)
  have xp0 : xr g x 0 = some p := hM.xp
  have Fw : xFr (oEq 5) 2 g (xNew g (xBlank 8 5 1) 1) := (xFr.rf (O := oEq 5) (n := 0)).nw.sub (fun _ h => h) (by omega)
  have hWw : xWy (xNew g (xBlank 8 5 1) 1) (xsz g) (0, nI 0) := ⟨xtag_newS rfl, xown_newS rfl, by decide, Or.inl ⟨rfl, xr_newS rfl⟩⟩
  generalize hgw : (xNew g (xBlank 8 5 1) 1) = gw at Fw hWw
  have hPw := hP0.fr Fw (fun o h1 h2 => by have := hM.P.p0; unfold oP at h1; unfold oEq at h2; omega) (by unfold oEq; omega)
  have dtw : xtag gw D = 16 := (Fw.tag dl0).trans dt0
  have dow : xown gw D = 14 := (Fw.own dl0).trans do0
  have dlw := Fw.lt dl0
  have diw : ∀ j, xi gw D j = xi g D j := fun j => (Fw.i' dl0 (by rw [do0]; unfold oEq; omega)).trans (di0 j)
  have d1w : xi gw D 1 = nI v := (diw 1).trans d4
  have d2w : xi gw D 2 = nI s := (diw 2).trans d5
  have d4w : xi gw D 4 = nI f := (diw 4).trans d7
  have d5w : xi gw D 5 = nI l := (diw 5).trans d8
  have xtw : xtag gw x = 1 := (Fw.tag xl0).trans xt0
  have xow : xown gw x = 1 := (Fw.own xl0).trans xo0
  have xlw := Fw.lt xl0
  have xpw : xr gw x 0 = some p := (Fw.r' xl0 (by rw [xo0]; unfold oEq; omega)).trans xp0
  have fqw : xr gw p 1 = some (aL Z 2) := hPw.f1
  have tqw : xtag gw p = 2 := hPw.tag
  refine xm_of (by decide +kernel) (Nat.le_of_ble_eq_true rfl) ?_
  show XW _ _ 0 [(0, _), (1, _)] [] _ _
  refine xw_aload_n (pc := 0) dX1_bars_0 1 rfl ?_
  refine xw_getNat (k := v) (pc := 1) fd_X1_479 dX1_bars_1 (by first | assumption | (simp [-List.getD_eq_getElem?_getD, xE_setI, xsz_setI, xsl_setI, xtag_setI, xown_setI, xlen_setI, xE_setR, xsz_setR, xsl_setR, xtag_setR, xown_setR, xlen_setR, xE_setW, xsz_setW, xsl_setW, xtag_setW, xown_setW, xlen_setW, xi_setR, xi_setW, xr_setI, xr_setW, xww_setI, xww_setR, xi_setI, xr_setR, xww_setW, xE_new, xsz_new, xsl_new, d1, d4, d5, d7, d8, xt0, xp0, hM.P.tag, dtw, d1w, d2w, d4w, d5w, xtw, xpw, fqw, tqw, xsub]; done) | (simp [-List.getD_eq_getElem?_getD, xE_setI, xsz_setI, xsl_setI, xtag_setI, xown_setI, xlen_setI, xE_setR, xsz_setR, xsl_setR, xtag_setR, xown_setR, xlen_setR, xE_setW, xsz_setW, xsl_setW, xtag_setW, xown_setW, xlen_setW, xi_setR, xi_setW, xr_setI, xr_setW, xww_setI, xww_setR, xi_setI, xr_setR, xww_setW, xE_new, xsz_new, xsl_new, d1, d4, d5, d7, d8, xt0, xp0, hM.P.tag, dtw, d1w, d2w, d4w, d5w, xtw, xpw, fqw, tqw] <;> rfl)) (by simp [-List.getD_eq_getElem?_getD, xE_setI, xsz_setI, xsl_setI, xtag_setI, xown_setI, xlen_setI, xE_setR, xsz_setR, xsl_setR, xtag_setR, xown_setR, xlen_setR, xE_setW, xsz_setW, xsl_setW, xtag_setW, xown_setW, xlen_setW, xi_setR, xi_setW, xr_setI, xr_setW, xww_setI, xww_setR, xi_setI, xr_setR, xww_setW, xE_new, xsz_new, xsl_new, d1, d4, d5, d7, d8, xt0, xp0, hM.P.tag, dtw, d1w, d2w, d4w, d5w, xtw, xpw, fqw, tqw]) ?_
  refine xw_iconst (v := -1) (pc := 4) dX1_bars_4 (by decide +kernel) ?_
  refine xw_icmp_eq (pc := 5) 26 dX1_bars_5 rfl (fun hb5 => ?_) (fun hb5 => ?_)
  · exfalso
    exact m1_ne (by omega) hb5.symm
  refine xw_aload_n (pc := 8) dX1_bars_8 0 rfl ?_
  refine xw_getS (b := p) (pc := 9) fd_X1_10 dX1_bars_9 (by first | assumption | (simp [-List.getD_eq_getElem?_getD, xE_setI, xsz_setI, xsl_setI, xtag_setI, xown_setI, xlen_setI, xE_setR, xsz_setR, xsl_setR, xtag_setR, xown_setR, xlen_setR, xE_setW, xsz_setW, xsl_setW, xtag_setW, xown_setW, xlen_setW, xi_setR, xi_setW, xr_setI, xr_setW, xww_setI, xww_setR, xi_setI, xr_setR, xww_setW, xE_new, xsz_new, xsl_new, d1, d4, d5, d7, d8, xt0, xp0, hM.P.tag, dtw, d1w, d2w, d4w, d5w, xtw, xpw, fqw, tqw, xsub]; done) | (simp [-List.getD_eq_getElem?_getD, xE_setI, xsz_setI, xsl_setI, xtag_setI, xown_setI, xlen_setI, xE_setR, xsz_setR, xsl_setR, xtag_setR, xown_setR, xlen_setR, xE_setW, xsz_setW, xsl_setW, xtag_setW, xown_setW, xlen_setW, xi_setR, xi_setW, xr_setI, xr_setW, xww_setI, xww_setR, xi_setI, xr_setR, xww_setW, xE_new, xsz_new, xsl_new, d1, d4, d5, d7, d8, xt0, xp0, hM.P.tag, dtw, d1w, d2w, d4w, d5w, xtw, xpw, fqw, tqw] <;> rfl)) (by simp [-List.getD_eq_getElem?_getD, xE_setI, xsz_setI, xsl_setI, xtag_setI, xown_setI, xlen_setI, xE_setR, xsz_setR, xsl_setR, xtag_setR, xown_setR, xlen_setR, xE_setW, xsz_setW, xsl_setW, xtag_setW, xown_setW, xlen_setW, xi_setR, xi_setW, xr_setI, xr_setW, xww_setI, xww_setR, xi_setI, xr_setR, xww_setW, xE_new, xsz_new, xsl_new, d1, d4, d5, d7, d8, xt0, xp0, hM.P.tag, dtw, d1w, d2w, d4w, d5w, xtw, xpw, fqw, tqw]) ?_
  refine xw_aload_n (pc := 12) dX1_bars_12 1 rfl ?_
  refine xw_getNat (k := v) (pc := 13) fd_X1_479 dX1_bars_13 (by first | assumption | (simp [-List.getD_eq_getElem?_getD, xE_setI, xsz_setI, xsl_setI, xtag_setI, xown_setI, xlen_setI, xE_setR, xsz_setR, xsl_setR, xtag_setR, xown_setR, xlen_setR, xE_setW, xsz_setW, xsl_setW, xtag_setW, xown_setW, xlen_setW, xi_setR, xi_setW, xr_setI, xr_setW, xww_setI, xww_setR, xi_setI, xr_setR, xww_setW, xE_new, xsz_new, xsl_new, d1, d4, d5, d7, d8, xt0, xp0, hM.P.tag, dtw, d1w, d2w, d4w, d5w, xtw, xpw, fqw, tqw, xsub]; done) | (simp [-List.getD_eq_getElem?_getD, xE_setI, xsz_setI, xsl_setI, xtag_setI, xown_setI, xlen_setI, xE_setR, xsz_setR, xsl_setR, xtag_setR, xown_setR, xlen_setR, xE_setW, xsz_setW, xsl_setW, xtag_setW, xown_setW, xlen_setW, xi_setR, xi_setW, xr_setI, xr_setW, xww_setI, xww_setR, xi_setI, xr_setR, xww_setW, xE_new, xsz_new, xsl_new, d1, d4, d5, d7, d8, xt0, xp0, hM.P.tag, dtw, d1w, d2w, d4w, d5w, xtw, xpw, fqw, tqw] <;> rfl)) (by simp [-List.getD_eq_getElem?_getD, xE_setI, xsz_setI, xsl_setI, xtag_setI, xown_setI, xlen_setI, xE_setR, xsz_setR, xsl_setR, xtag_setR, xown_setR, xlen_setR, xE_setW, xsz_setW, xsl_setW, xtag_setW, xown_setW, xlen_setW, xi_setR, xi_setW, xr_setI, xr_setW, xww_setI, xww_setR, xi_setI, xr_setR, xww_setW, xE_new, xsz_new, xsl_new, d1, d4, d5, d7, d8, xt0, xp0, hM.P.tag, dtw, d1w, d2w, d4w, d5w, xtw, xpw, fqw, tqw]) ?_
  refine xw_callV (pc := 16) (xr_V (as := [_]) ok_X2_isRule rfl (by decide) q1688 q1343 q1344 (by first | (rw [hP0.tag]; rfl) | (rw [hP41.tag]; rfl) | (rw [hP68.tag]; rfl) | (rw [hP85.tag]; rfl)) (by first | (rw [hP0.tag]; rfl) | (rw [hP41.tag]; rfl) | (rw [hP68.tag]; rfl) | (rw [hP85.tag]; rfl)) dX1_bars_16 rfl rfl (Nat.le_of_ble_eq_true rfl)) ((show XM M_X2_isRule (d + 79) [.ref p, .int (nI v)] g (xOne (some (.int (bI true))) g) from (show inR (nI v) (nI 0) (nI (aR Z).length - nI 1) = true by rw [hlr]; exact inR_k (by omega) hv) ▸ SP_X2_isRule hM.P.pl)) ?_
  refine xw_if_ne (pc := 19) 26 dX1_bars_19 rfl (fun _ => ?_) (fun hb => absurd hb (by decide))
  refine xw_iconst (v := nI 0) (pc := 26) dX1_bars_26 rfl ?_
  refine xw_istore_n (l' := [(2, _), (0, _), (1, _)]) (pc := 27) dX1_bars_27 rfl (by decide) rfl ?_
  refine xw_new (t := 8) (pc := 28) 5 dX1_bars_28 rfl (by decide) (by first | decide | assumption | omega) q1268 q1269 q127 ?_
  refine xw_at (a := (xsz g)) (by rfl) ?_
  rw [hgw]
  refine xw_dup (pc := 31) dX1_bars_31 rfl ?_
  refine xw_callU (pc := 32) (xr_IN (as := []) ok_X10_init rfl (by decide) q1270 q1271 rfl rfl dX1_bars_32 rfl rfl (Nat.le_of_ble_eq_true rfl)) (SP_X10_init) ?_
  refine xw_iload_n (pc := 35) dX1_bars_35 0 rfl ?_
  refine xw_iconst (v := nI 1) (pc := 36) dX1_bars_36 rfl ?_
  refine xw_aload_n (pc := 37) dX1_bars_37 2 rfl ?_
  refine xw_getNat (k := v) (pc := 38) fd_X1_479 dX1_bars_38 (by first | assumption | (simp [-List.getD_eq_getElem?_getD, xE_setI, xsz_setI, xsl_setI, xtag_setI, xown_setI, xlen_setI, xE_setR, xsz_setR, xsl_setR, xtag_setR, xown_setR, xlen_setR, xE_setW, xsz_setW, xsl_setW, xtag_setW, xown_setW, xlen_setW, xi_setR, xi_setW, xr_setI, xr_setW, xww_setI, xww_setR, xi_setI, xr_setR, xww_setW, xE_new, xsz_new, xsl_new, d1, d4, d5, d7, d8, xt0, xp0, hM.P.tag, dtw, d1w, d2w, d4w, d5w, xtw, xpw, fqw, tqw, xsub]; done) | (simp [-List.getD_eq_getElem?_getD, xE_setI, xsz_setI, xsl_setI, xtag_setI, xown_setI, xlen_setI, xE_setR, xsz_setR, xsl_setR, xtag_setR, xown_setR, xlen_setR, xE_setW, xsz_setW, xsl_setW, xtag_setW, xown_setW, xlen_setW, xi_setR, xi_setW, xr_setI, xr_setW, xww_setI, xww_setR, xi_setI, xr_setR, xww_setW, xE_new, xsz_new, xsl_new, d1, d4, d5, d7, d8, xt0, xp0, hM.P.tag, dtw, d1w, d2w, d4w, d5w, xtw, xpw, fqw, tqw] <;> rfl)) (by simp [-List.getD_eq_getElem?_getD, xE_setI, xsz_setI, xsl_setI, xtag_setI, xown_setI, xlen_setI, xE_setR, xsz_setR, xsl_setR, xtag_setR, xown_setR, xlen_setR, xE_setW, xsz_setW, xsl_setW, xtag_setW, xown_setW, xlen_setW, xi_setR, xi_setW, xr_setI, xr_setW, xww_setI, xww_setR, xi_setI, xr_setR, xww_setW, xE_new, xsz_new, xsl_new, d1, d4, d5, d7, d8, xt0, xp0, hM.P.tag, dtw, d1w, d2w, d4w, d5w, xtw, xpw, fqw, tqw]) ?_
  refine xw_callF (pc := 41) (xr_V (as := [_, _, _]) ok_X10_asks rfl (by decide) q1447 q1284 q1285 (by first | (rw [hWw.1]; rfl) | (rw [hW41.1]; rfl) | (rw [hW68.1]; rfl) | (rw [hW85.1]; rfl)) (by first | (rw [hWw.1]; rfl) | (rw [hW41.1]; rfl) | (rw [hW68.1]; rfl) | (rw [hW85.1]; rfl)) dX1_bars_41 rfl rfl (Nat.le_of_ble_eq_true rfl)) (SP_X10_asks (v := (0, nI 0)) (b := false) hWw (by rfl) (by decide)) ?_
  intro g41 hc41 hm41
  obtain ⟨hW41, F41⟩ := hc41
  have hP41 := hPw.fr F41 (fun o h1 h2 => by have := hM.P.p0; unfold oP at h1; unfold oEq at h2; omega) (by unfold oEq; omega)
  have dt41 : xtag g41 D = 16 := (F41.tag dlw).trans dtw
  have do41 : xown g41 D = 14 := (F41.own dlw).trans dow
  have dl41 := F41.lt dlw
  have di41 : ∀ j, xi g41 D j = xi g D j := fun j => (F41.i' dlw (by rw [dow]; unfold oEq; omega)).trans (diw j)
  have d141 : xi g41 D 1 = nI v := (di41 1).trans d4
  have d241 : xi g41 D 2 = nI s := (di41 2).trans d5
  have d441 : xi g41 D 4 = nI f := (di41 4).trans d7
  have d541 : xi g41 D 5 = nI l := (di41 5).trans d8
  have xt41 : xtag g41 x = 1 := (F41.tag xlw).trans xtw
  have xo41 : xown g41 x = 1 := (F41.own xlw).trans xow
  have xl41 := F41.lt xlw
  have xp41 : xr g41 x 0 = some p := (F41.r' xlw (by rw [xow]; unfold oEq; omega)).trans xpw
  have fq41 : xr g41 p 1 = some (aL Z 2) := hP41.f1
  have tq41 : xtag g41 p = 2 := hP41.tag
  refine xw_aload_n (pc := 44) dX1_bars_44 1 rfl ?_
  refine xw_getS (b := p) (pc := 45) fd_X1_10 dX1_bars_45 (by first | assumption | (simp [-List.getD_eq_getElem?_getD, xE_setI, xsz_setI, xsl_setI, xtag_setI, xown_setI, xlen_setI, xE_setR, xsz_setR, xsl_setR, xtag_setR, xown_setR, xlen_setR, xE_setW, xsz_setW, xsl_setW, xtag_setW, xown_setW, xlen_setW, xi_setR, xi_setW, xr_setI, xr_setW, xww_setI, xww_setR, xi_setI, xr_setR, xww_setW, xE_new, xsz_new, xsl_new, d1, d4, d5, d7, d8, xt0, xp0, hM.P.tag, dtw, d1w, d2w, d4w, d5w, xtw, xpw, fqw, tqw, dt41, d141, d241, d441, d541, xt41, xp41, fq41, tq41, xsub]; done) | (simp [-List.getD_eq_getElem?_getD, xE_setI, xsz_setI, xsl_setI, xtag_setI, xown_setI, xlen_setI, xE_setR, xsz_setR, xsl_setR, xtag_setR, xown_setR, xlen_setR, xE_setW, xsz_setW, xsl_setW, xtag_setW, xown_setW, xlen_setW, xi_setR, xi_setW, xr_setI, xr_setW, xww_setI, xww_setR, xi_setI, xr_setR, xww_setW, xE_new, xsz_new, xsl_new, d1, d4, d5, d7, d8, xt0, xp0, hM.P.tag, dtw, d1w, d2w, d4w, d5w, xtw, xpw, fqw, tqw, dt41, d141, d241, d441, d541, xt41, xp41, fq41, tq41] <;> rfl)) (by simp [-List.getD_eq_getElem?_getD, xE_setI, xsz_setI, xsl_setI, xtag_setI, xown_setI, xlen_setI, xE_setR, xsz_setR, xsl_setR, xtag_setR, xown_setR, xlen_setR, xE_setW, xsz_setW, xsl_setW, xtag_setW, xown_setW, xlen_setW, xi_setR, xi_setW, xr_setI, xr_setW, xww_setI, xww_setR, xi_setI, xr_setR, xww_setW, xE_new, xsz_new, xsl_new, d1, d4, d5, d7, d8, xt0, xp0, hM.P.tag, dtw, d1w, d2w, d4w, d5w, xtw, xpw, fqw, tqw, dt41, d141, d241, d441, d541, xt41, xp41, fq41, tq41]) ?_
  refine xw_aload_n (pc := 48) dX1_bars_48 2 rfl ?_
  refine xw_getNat (k := s) (pc := 49) fd_X1_483 dX1_bars_49 (by first | assumption | (simp [-List.getD_eq_getElem?_getD, xE_setI, xsz_setI, xsl_setI, xtag_setI, xown_setI, xlen_setI, xE_setR, xsz_setR, xsl_setR, xtag_setR, xown_setR, xlen_setR, xE_setW, xsz_setW, xsl_setW, xtag_setW, xown_setW, xlen_setW, xi_setR, xi_setW, xr_setI, xr_setW, xww_setI, xww_setR, xi_setI, xr_setR, xww_setW, xE_new, xsz_new, xsl_new, d1, d4, d5, d7, d8, xt0, xp0, hM.P.tag, dtw, d1w, d2w, d4w, d5w, xtw, xpw, fqw, tqw, dt41, d141, d241, d441, d541, xt41, xp41, fq41, tq41, xsub]; done) | (simp [-List.getD_eq_getElem?_getD, xE_setI, xsz_setI, xsl_setI, xtag_setI, xown_setI, xlen_setI, xE_setR, xsz_setR, xsl_setR, xtag_setR, xown_setR, xlen_setR, xE_setW, xsz_setW, xsl_setW, xtag_setW, xown_setW, xlen_setW, xi_setR, xi_setW, xr_setI, xr_setW, xww_setI, xww_setR, xi_setI, xr_setR, xww_setW, xE_new, xsz_new, xsl_new, d1, d4, d5, d7, d8, xt0, xp0, hM.P.tag, dtw, d1w, d2w, d4w, d5w, xtw, xpw, fqw, tqw, dt41, d141, d241, d441, d541, xt41, xp41, fq41, tq41] <;> rfl)) (by simp [-List.getD_eq_getElem?_getD, xE_setI, xsz_setI, xsl_setI, xtag_setI, xown_setI, xlen_setI, xE_setR, xsz_setR, xsl_setR, xtag_setR, xown_setR, xlen_setR, xE_setW, xsz_setW, xsl_setW, xtag_setW, xown_setW, xlen_setW, xi_setR, xi_setW, xr_setI, xr_setW, xww_setI, xww_setR, xi_setI, xr_setR, xww_setW, xE_new, xsz_new, xsl_new, d1, d4, d5, d7, d8, xt0, xp0, hM.P.tag, dtw, d1w, d2w, d4w, d5w, xtw, xpw, fqw, tqw, dt41, d141, d241, d441, d541, xt41, xp41, fq41, tq41]) ?_
  refine xw_callV (pc := 52) (xr_V (as := [_]) ok_X2_isScope rfl (by decide) q1251 q1061 q1062 (by first | (rw [hP0.tag]; rfl) | (rw [hP41.tag]; rfl) | (rw [hP68.tag]; rfl) | (rw [hP85.tag]; rfl)) (by first | (rw [hP0.tag]; rfl) | (rw [hP41.tag]; rfl) | (rw [hP68.tag]; rfl) | (rw [hP85.tag]; rfl)) dX1_bars_52 rfl rfl (Nat.le_of_ble_eq_true rfl)) (SP_X2_isScope hP41.pl) ?_
  refine xw_if_ne (pc := 55) 62 dX1_bars_55 rfl (fun hb55 => ?_) (fun hb55 => ?_)
  · replace hb55 := bI_n0.mp hb55
    refine xw_iconst (v := nI 0) (pc := 62) dX1_bars_62 rfl ?_
    refine xw_iconst (v := nI 1) (pc := 63) dX1_bars_63 rfl ?_
    refine xw_aload_n (pc := 64) dX1_bars_64 2 rfl ?_
    refine xw_getNat (k := s) (pc := 65) fd_X1_483 dX1_bars_65 (by first | assumption | (simp [-List.getD_eq_getElem?_getD, xE_setI, xsz_setI, xsl_setI, xtag_setI, xown_setI, xlen_setI, xE_setR, xsz_setR, xsl_setR, xtag_setR, xown_setR, xlen_setR, xE_setW, xsz_setW, xsl_setW, xtag_setW, xown_setW, xlen_setW, xi_setR, xi_setW, xr_setI, xr_setW, xww_setI, xww_setR, xi_setI, xr_setR, xww_setW, xE_new, xsz_new, xsl_new, d1, d4, d5, d7, d8, xt0, xp0, hM.P.tag, dtw, d1w, d2w, d4w, d5w, xtw, xpw, fqw, tqw, dt41, d141, d241, d441, d541, xt41, xp41, fq41, tq41, xsub]; done) | (simp [-List.getD_eq_getElem?_getD, xE_setI, xsz_setI, xsl_setI, xtag_setI, xown_setI, xlen_setI, xE_setR, xsz_setR, xsl_setR, xtag_setR, xown_setR, xlen_setR, xE_setW, xsz_setW, xsl_setW, xtag_setW, xown_setW, xlen_setW, xi_setR, xi_setW, xr_setI, xr_setW, xww_setI, xww_setR, xi_setI, xr_setR, xww_setW, xE_new, xsz_new, xsl_new, d1, d4, d5, d7, d8, xt0, xp0, hM.P.tag, dtw, d1w, d2w, d4w, d5w, xtw, xpw, fqw, tqw, dt41, d141, d241, d441, d541, xt41, xp41, fq41, tq41] <;> rfl)) (by simp [-List.getD_eq_getElem?_getD, xE_setI, xsz_setI, xsl_setI, xtag_setI, xown_setI, xlen_setI, xE_setR, xsz_setR, xsl_setR, xtag_setR, xown_setR, xlen_setR, xE_setW, xsz_setW, xsl_setW, xtag_setW, xown_setW, xlen_setW, xi_setR, xi_setW, xr_setI, xr_setW, xww_setI, xww_setR, xi_setI, xr_setR, xww_setW, xE_new, xsz_new, xsl_new, d1, d4, d5, d7, d8, xt0, xp0, hM.P.tag, dtw, d1w, d2w, d4w, d5w, xtw, xpw, fqw, tqw, dt41, d141, d241, d441, d541, xt41, xp41, fq41, tq41]) ?_
    refine xw_callF (pc := 68) (xr_V (as := [_, _, _]) ok_X10_asks rfl (by decide) q1447 q1284 q1285 (by first | (rw [hWw.1]; rfl) | (rw [hW41.1]; rfl) | (rw [hW68.1]; rfl) | (rw [hW85.1]; rfl)) (by first | (rw [hWw.1]; rfl) | (rw [hW41.1]; rfl) | (rw [hW68.1]; rfl) | (rw [hW85.1]; rfl)) dX1_bars_68 rfl rfl (Nat.le_of_ble_eq_true rfl)) (SP_X10_asks (b := false) hW41 (by rfl) (by decide)) ?_
    intro g68 hc68 hm68
    obtain ⟨hW68, F68⟩ := hc68
    have hP68 := hP41.fr F68 (fun o h1 h2 => by have := hM.P.p0; unfold oP at h1; unfold oEq at h2; omega) (by unfold oEq; omega)
    have dt68 : xtag g68 D = 16 := (F68.tag dl41).trans dt41
    have do68 : xown g68 D = 14 := (F68.own dl41).trans do41
    have dl68 := F68.lt dl41
    have di68 : ∀ j, xi g68 D j = xi g D j := fun j => (F68.i' dl41 (by rw [do41]; unfold oEq; omega)).trans (di41 j)
    have d168 : xi g68 D 1 = nI v := (di68 1).trans d4
    have d268 : xi g68 D 2 = nI s := (di68 2).trans d5
    have d468 : xi g68 D 4 = nI f := (di68 4).trans d7
    have d568 : xi g68 D 5 = nI l := (di68 5).trans d8
    have xt68 : xtag g68 x = 1 := (F68.tag xl41).trans xt41
    have xo68 : xown g68 x = 1 := (F68.own xl41).trans xo41
    have xl68 := F68.lt xl41
    have xp68 : xr g68 x 0 = some p := (F68.r' xl41 (by rw [xo41]; unfold oEq; omega)).trans xp41
    have fq68 : xr g68 p 1 = some (aL Z 2) := hP68.f1
    have tq68 : xtag g68 p = 2 := hP68.tag
    refine xw_astore_n (l' := [(3, _), (2, _), (0, _), (1, _)]) (pc := 71) dX1_bars_71 rfl (by decide) rfl ?_
    refine xw_aload_n (pc := 72) dX1_bars_72 2 rfl ?_
    refine xw_getS (b := p) (pc := 73) fd_X1_10 dX1_bars_73 (by first | assumption | (simp [-List.getD_eq_getElem?_getD, xE_setI, xsz_setI, xsl_setI, xtag_setI, xown_setI, xlen_setI, xE_setR, xsz_setR, xsl_setR, xtag_setR, xown_setR, xlen_setR, xE_setW, xsz_setW, xsl_setW, xtag_setW, xown_setW, xlen_setW, xi_setR, xi_setW, xr_setI, xr_setW, xww_setI, xww_setR, xi_setI, xr_setR, xww_setW, xE_new, xsz_new, xsl_new, d1, d4, d5, d7, d8, xt0, xp0, hM.P.tag, dtw, d1w, d2w, d4w, d5w, xtw, xpw, fqw, tqw, dt41, d141, d241, d441, d541, xt41, xp41, fq41, tq41, dt68, d168, d268, d468, d568, xt68, xp68, fq68, tq68, xsub]; done) | (simp [-List.getD_eq_getElem?_getD, xE_setI, xsz_setI, xsl_setI, xtag_setI, xown_setI, xlen_setI, xE_setR, xsz_setR, xsl_setR, xtag_setR, xown_setR, xlen_setR, xE_setW, xsz_setW, xsl_setW, xtag_setW, xown_setW, xlen_setW, xi_setR, xi_setW, xr_setI, xr_setW, xww_setI, xww_setR, xi_setI, xr_setR, xww_setW, xE_new, xsz_new, xsl_new, d1, d4, d5, d7, d8, xt0, xp0, hM.P.tag, dtw, d1w, d2w, d4w, d5w, xtw, xpw, fqw, tqw, dt41, d141, d241, d441, d541, xt41, xp41, fq41, tq41, dt68, d168, d268, d468, d568, xt68, xp68, fq68, tq68] <;> rfl)) (by simp [-List.getD_eq_getElem?_getD, xE_setI, xsz_setI, xsl_setI, xtag_setI, xown_setI, xlen_setI, xE_setR, xsz_setR, xsl_setR, xtag_setR, xown_setR, xlen_setR, xE_setW, xsz_setW, xsl_setW, xtag_setW, xown_setW, xlen_setW, xi_setR, xi_setW, xr_setI, xr_setW, xww_setI, xww_setR, xi_setI, xr_setR, xww_setW, xE_new, xsz_new, xsl_new, d1, d4, d5, d7, d8, xt0, xp0, hM.P.tag, dtw, d1w, d2w, d4w, d5w, xtw, xpw, fqw, tqw, dt41, d141, d241, d441, d541, xt41, xp41, fq41, tq41, dt68, d168, d268, d468, d568, xt68, xp68, fq68, tq68]) ?_
    refine xw_aload_n (pc := 76) dX1_bars_76 0 rfl ?_
    refine xw_aload_n (pc := 77) dX1_bars_77 3 rfl ?_
    refine xw_getNat (k := f) (pc := 78) fd_X1_484 dX1_bars_78 (by first | assumption | (simp [-List.getD_eq_getElem?_getD, xE_setI, xsz_setI, xsl_setI, xtag_setI, xown_setI, xlen_setI, xE_setR, xsz_setR, xsl_setR, xtag_setR, xown_setR, xlen_setR, xE_setW, xsz_setW, xsl_setW, xtag_setW, xown_setW, xlen_setW, xi_setR, xi_setW, xr_setI, xr_setW, xww_setI, xww_setR, xi_setI, xr_setR, xww_setW, xE_new, xsz_new, xsl_new, d1, d4, d5, d7, d8, xt0, xp0, hM.P.tag, dtw, d1w, d2w, d4w, d5w, xtw, xpw, fqw, tqw, dt41, d141, d241, d441, d541, xt41, xp41, fq41, tq41, dt68, d168, d268, d468, d568, xt68, xp68, fq68, tq68, xsub]; done) | (simp [-List.getD_eq_getElem?_getD, xE_setI, xsz_setI, xsl_setI, xtag_setI, xown_setI, xlen_setI, xE_setR, xsz_setR, xsl_setR, xtag_setR, xown_setR, xlen_setR, xE_setW, xsz_setW, xsl_setW, xtag_setW, xown_setW, xlen_setW, xi_setR, xi_setW, xr_setI, xr_setW, xww_setI, xww_setR, xi_setI, xr_setR, xww_setW, xE_new, xsz_new, xsl_new, d1, d4, d5, d7, d8, xt0, xp0, hM.P.tag, dtw, d1w, d2w, d4w, d5w, xtw, xpw, fqw, tqw, dt41, d141, d241, d441, d541, xt41, xp41, fq41, tq41, dt68, d168, d268, d468, d568, xt68, xp68, fq68, tq68] <;> rfl)) (by simp [-List.getD_eq_getElem?_getD, xE_setI, xsz_setI, xsl_setI, xtag_setI, xown_setI, xlen_setI, xE_setR, xsz_setR, xsl_setR, xtag_setR, xown_setR, xlen_setR, xE_setW, xsz_setW, xsl_setW, xtag_setW, xown_setW, xlen_setW, xi_setR, xi_setW, xr_setI, xr_setW, xww_setI, xww_setR, xi_setI, xr_setR, xww_setW, xE_new, xsz_new, xsl_new, d1, d4, d5, d7, d8, xt0, xp0, hM.P.tag, dtw, d1w, d2w, d4w, d5w, xtw, xpw, fqw, tqw, dt41, d141, d241, d441, d541, xt41, xp41, fq41, tq41, dt68, d168, d268, d468, d568, xt68, xp68, fq68, tq68]) ?_
    refine xw_aload_n (pc := 81) dX1_bars_81 3 rfl ?_
    refine xw_getNat (k := l) (pc := 82) fd_X1_485 dX1_bars_82 (by first | assumption | (simp [-List.getD_eq_getElem?_getD, xE_setI, xsz_setI, xsl_setI, xtag_setI, xown_setI, xlen_setI, xE_setR, xsz_setR, xsl_setR, xtag_setR, xown_setR, xlen_setR, xE_setW, xsz_setW, xsl_setW, xtag_setW, xown_setW, xlen_setW, xi_setR, xi_setW, xr_setI, xr_setW, xww_setI, xww_setR, xi_setI, xr_setR, xww_setW, xE_new, xsz_new, xsl_new, d1, d4, d5, d7, d8, xt0, xp0, hM.P.tag, dtw, d1w, d2w, d4w, d5w, xtw, xpw, fqw, tqw, dt41, d141, d241, d441, d541, xt41, xp41, fq41, tq41, dt68, d168, d268, d468, d568, xt68, xp68, fq68, tq68, xsub]; done) | (simp [-List.getD_eq_getElem?_getD, xE_setI, xsz_setI, xsl_setI, xtag_setI, xown_setI, xlen_setI, xE_setR, xsz_setR, xsl_setR, xtag_setR, xown_setR, xlen_setR, xE_setW, xsz_setW, xsl_setW, xtag_setW, xown_setW, xlen_setW, xi_setR, xi_setW, xr_setI, xr_setW, xww_setI, xww_setR, xi_setI, xr_setR, xww_setW, xE_new, xsz_new, xsl_new, d1, d4, d5, d7, d8, xt0, xp0, hM.P.tag, dtw, d1w, d2w, d4w, d5w, xtw, xpw, fqw, tqw, dt41, d141, d241, d441, d541, xt41, xp41, fq41, tq41, dt68, d168, d268, d468, d568, xt68, xp68, fq68, tq68] <;> rfl)) (by simp [-List.getD_eq_getElem?_getD, xE_setI, xsz_setI, xsl_setI, xtag_setI, xown_setI, xlen_setI, xE_setR, xsz_setR, xsl_setR, xtag_setR, xown_setR, xlen_setR, xE_setW, xsz_setW, xsl_setW, xtag_setW, xown_setW, xlen_setW, xi_setR, xi_setW, xr_setI, xr_setW, xww_setI, xww_setR, xi_setI, xr_setR, xww_setW, xE_new, xsz_new, xsl_new, d1, d4, d5, d7, d8, xt0, xp0, hM.P.tag, dtw, d1w, d2w, d4w, d5w, xtw, xpw, fqw, tqw, dt41, d141, d241, d441, d541, xt41, xp41, fq41, tq41, dt68, d168, d268, d468, d568, xt68, xp68, fq68, tq68]) ?_
    refine xw_callF (pc := 85) (xr_V (as := [_, _, _]) ok_X2_barsRule rfl (by decide) q1279 q1280 q1281 (by first | (rw [hP0.tag]; rfl) | (rw [hP41.tag]; rfl) | (rw [hP68.tag]; rfl) | (rw [hP85.tag]; rfl)) (by first | (rw [hP0.tag]; rfl) | (rw [hP41.tag]; rfl) | (rw [hP68.tag]; rfl) | (rw [hP85.tag]; rfl)) dX1_bars_85 rfl rfl (Nat.le_of_ble_eq_true rfl)) (SP_X2_barsRule hP68.pl hW68) ?_
    intro g85 hc85 hm85
    obtain ⟨hW85, F85⟩ := hc85
    have hP85 := hP68.fr F85 (fun o h1 h2 => by have := hM.P.p0; unfold oP at h1; unfold oEq at h2; omega) (by unfold oEq; omega)
    have dt85 : xtag g85 D = 16 := (F85.tag dl68).trans dt68
    have do85 : xown g85 D = 14 := (F85.own dl68).trans do68
    have dl85 := F85.lt dl68
    have di85 : ∀ j, xi g85 D j = xi g D j := fun j => (F85.i' dl68 (by rw [do68]; unfold oEq; omega)).trans (di68 j)
    have d185 : xi g85 D 1 = nI v := (di85 1).trans d4
    have d285 : xi g85 D 2 = nI s := (di85 2).trans d5
    have d485 : xi g85 D 4 = nI f := (di85 4).trans d7
    have d585 : xi g85 D 5 = nI l := (di85 5).trans d8
    have xt85 : xtag g85 x = 1 := (F85.tag xl68).trans xt68
    have xo85 : xown g85 x = 1 := (F85.own xl68).trans xo68
    have xl85 := F85.lt xl68
    have xp85 : xr g85 x 0 = some p := (F85.r' xl68 (by rw [xo68]; unfold oEq; omega)).trans xp68
    have fq85 : xr g85 p 1 = some (aL Z 2) := hP85.f1
    have tq85 : xtag g85 p = 2 := hP85.tag
    have hWB : xWy g85 (xsz g) (wBa n rr false (some v) s f l) := by
      unfold wBa
      rw [hlc] at hb55
      rw [hb55, ← hlr]
      exact hW85
    refine xw_pop (pc := 88) dX1_bars_88 rfl ?_
    refine xw_aload_n (pc := 89) dX1_bars_89 0 rfl ?_
    refine xw_callV (pc := 90) (xr_V (as := []) ok_X10_isNone rfl (by decide) q1306 q1307 q1308 (by first | (rw [hWw.1]; rfl) | (rw [hW41.1]; rfl) | (rw [hW68.1]; rfl) | (rw [hW85.1]; rfl)) (by first | (rw [hWw.1]; rfl) | (rw [hW41.1]; rfl) | (rw [hW68.1]; rfl) | (rw [hW85.1]; rfl)) dX1_bars_90 rfl rfl (Nat.le_of_ble_eq_true rfl)) (SP_X10_isNone hWB) ?_
    refine xw_if_eq (pc := 93) 136 dX1_bars_93 rfl (fun hb93 => ?_) (fun hb93 => ?_)
    · replace hb93 := bI_0.mp hb93
      refine xw_aload_n (pc := 136) dX1_bars_136 0 rfl ?_
      refine xw_aret (pc := 137) (.object "PolicyNotation$Whys") dX1_bars_137 rfl ?_
      first
      | (refine ⟨rfl, ?_, ((((Fw.tr F41).tr F68).tr F85).sub (fun _ h => h) (by omega))⟩
         unfold wBb
         dsimp only
         rw [if_pos hv, if_neg (of_decide_eq_false hb93)]
         exact hWB)
      | (refine ⟨rfl, ?_, (((((Fw.tr F41).tr F68).tr F85).tr hc130.2).sub (fun _ h => h) (by omega))⟩
         unfold wBb
         dsimp only
         rw [if_pos hv, if_pos (of_decide_eq_true hb93)]
         exact hc130.1)
    · replace hb93 := bI_n0.mp hb93
      refine xw_aload_n (pc := 96) dX1_bars_96 3 rfl ?_
      refine xw_getNat (k := v) (pc := 97) fd_X1_479 dX1_bars_97 (by first | assumption | (simp [-List.getD_eq_getElem?_getD, xE_setI, xsz_setI, xsl_setI, xtag_setI, xown_setI, xlen_setI, xE_setR, xsz_setR, xsl_setR, xtag_setR, xown_setR, xlen_setR, xE_setW, xsz_setW, xsl_setW, xtag_setW, xown_setW, xlen_setW, xi_setR, xi_setW, xr_setI, xr_setW, xww_setI, xww_setR, xi_setI, xr_setR, xww_setW, xE_new, xsz_new, xsl_new, d1, d4, d5, d7, d8, xt0, xp0, hM.P.tag, dtw, d1w, d2w, d4w, d5w, xtw, xpw, fqw, tqw, dt41, d141, d241, d441, d541, xt41, xp41, fq41, tq41, dt68, d168, d268, d468, d568, xt68, xp68, fq68, tq68, dt85, d185, d285, d485, d585, xt85, xp85, fq85, tq85, xsub]; done) | (simp [-List.getD_eq_getElem?_getD, xE_setI, xsz_setI, xsl_setI, xtag_setI, xown_setI, xlen_setI, xE_setR, xsz_setR, xsl_setR, xtag_setR, xown_setR, xlen_setR, xE_setW, xsz_setW, xsl_setW, xtag_setW, xown_setW, xlen_setW, xi_setR, xi_setW, xr_setI, xr_setW, xww_setI, xww_setR, xi_setI, xr_setR, xww_setW, xE_new, xsz_new, xsl_new, d1, d4, d5, d7, d8, xt0, xp0, hM.P.tag, dtw, d1w, d2w, d4w, d5w, xtw, xpw, fqw, tqw, dt41, d141, d241, d441, d541, xt41, xp41, fq41, tq41, dt68, d168, d268, d468, d568, xt68, xp68, fq68, tq68, dt85, d185, d285, d485, d585, xt85, xp85, fq85, tq85] <;> rfl)) (by simp [-List.getD_eq_getElem?_getD, xE_setI, xsz_setI, xsl_setI, xtag_setI, xown_setI, xlen_setI, xE_setR, xsz_setR, xsl_setR, xtag_setR, xown_setR, xlen_setR, xE_setW, xsz_setW, xsl_setW, xtag_setW, xown_setW, xlen_setW, xi_setR, xi_setW, xr_setI, xr_setW, xww_setI, xww_setR, xi_setI, xr_setR, xww_setW, xE_new, xsz_new, xsl_new, d1, d4, d5, d7, d8, xt0, xp0, hM.P.tag, dtw, d1w, d2w, d4w, d5w, xtw, xpw, fqw, tqw, dt41, d141, d241, d441, d541, xt41, xp41, fq41, tq41, dt68, d168, d268, d468, d568, xt68, xp68, fq68, tq68, dt85, d185, d285, d485, d585, xt85, xp85, fq85, tq85]) ?_
      refine xw_iconst (v := -1) (pc := 100) dX1_bars_100 (by decide +kernel) ?_
      refine xw_icmp_eq (pc := 101) 136 dX1_bars_101 rfl (fun hb101 => ?_) (fun hb101 => ?_)
      · exfalso
        exact m1_ne (by omega) hb101.symm
      refine xw_aload_n (pc := 104) dX1_bars_104 2 rfl ?_
      refine xw_getS (b := p) (pc := 105) fd_X1_10 dX1_bars_105 (by first | assumption | (simp [-List.getD_eq_getElem?_getD, xE_setI, xsz_setI, xsl_setI, xtag_setI, xown_setI, xlen_setI, xE_setR, xsz_setR, xsl_setR, xtag_setR, xown_setR, xlen_setR, xE_setW, xsz_setW, xsl_setW, xtag_setW, xown_setW, xlen_setW, xi_setR, xi_setW, xr_setI, xr_setW, xww_setI, xww_setR, xi_setI, xr_setR, xww_setW, xE_new, xsz_new, xsl_new, d1, d4, d5, d7, d8, xt0, xp0, hM.P.tag, dtw, d1w, d2w, d4w, d5w, xtw, xpw, fqw, tqw, dt41, d141, d241, d441, d541, xt41, xp41, fq41, tq41, dt68, d168, d268, d468, d568, xt68, xp68, fq68, tq68, dt85, d185, d285, d485, d585, xt85, xp85, fq85, tq85, xsub]; done) | (simp [-List.getD_eq_getElem?_getD, xE_setI, xsz_setI, xsl_setI, xtag_setI, xown_setI, xlen_setI, xE_setR, xsz_setR, xsl_setR, xtag_setR, xown_setR, xlen_setR, xE_setW, xsz_setW, xsl_setW, xtag_setW, xown_setW, xlen_setW, xi_setR, xi_setW, xr_setI, xr_setW, xww_setI, xww_setR, xi_setI, xr_setR, xww_setW, xE_new, xsz_new, xsl_new, d1, d4, d5, d7, d8, xt0, xp0, hM.P.tag, dtw, d1w, d2w, d4w, d5w, xtw, xpw, fqw, tqw, dt41, d141, d241, d441, d541, xt41, xp41, fq41, tq41, dt68, d168, d268, d468, d568, xt68, xp68, fq68, tq68, dt85, d185, d285, d485, d585, xt85, xp85, fq85, tq85] <;> rfl)) (by simp [-List.getD_eq_getElem?_getD, xE_setI, xsz_setI, xsl_setI, xtag_setI, xown_setI, xlen_setI, xE_setR, xsz_setR, xsl_setR, xtag_setR, xown_setR, xlen_setR, xE_setW, xsz_setW, xsl_setW, xtag_setW, xown_setW, xlen_setW, xi_setR, xi_setW, xr_setI, xr_setW, xww_setI, xww_setR, xi_setI, xr_setR, xww_setW, xE_new, xsz_new, xsl_new, d1, d4, d5, d7, d8, xt0, xp0, hM.P.tag, dtw, d1w, d2w, d4w, d5w, xtw, xpw, fqw, tqw, dt41, d141, d241, d441, d541, xt41, xp41, fq41, tq41, dt68, d168, d268, d468, d568, xt68, xp68, fq68, tq68, dt85, d185, d285, d485, d585, xt85, xp85, fq85, tq85]) ?_
      refine xw_aload_n (pc := 108) dX1_bars_108 0 rfl ?_
      refine xw_aload_n (pc := 109) dX1_bars_109 2 rfl ?_
      refine xw_getS (b := p) (pc := 110) fd_X1_10 dX1_bars_110 (by first | assumption | (simp [-List.getD_eq_getElem?_getD, xE_setI, xsz_setI, xsl_setI, xtag_setI, xown_setI, xlen_setI, xE_setR, xsz_setR, xsl_setR, xtag_setR, xown_setR, xlen_setR, xE_setW, xsz_setW, xsl_setW, xtag_setW, xown_setW, xlen_setW, xi_setR, xi_setW, xr_setI, xr_setW, xww_setI, xww_setR, xi_setI, xr_setR, xww_setW, xE_new, xsz_new, xsl_new, d1, d4, d5, d7, d8, xt0, xp0, hM.P.tag, dtw, d1w, d2w, d4w, d5w, xtw, xpw, fqw, tqw, dt41, d141, d241, d441, d541, xt41, xp41, fq41, tq41, dt68, d168, d268, d468, d568, xt68, xp68, fq68, tq68, dt85, d185, d285, d485, d585, xt85, xp85, fq85, tq85, xsub]; done) | (simp [-List.getD_eq_getElem?_getD, xE_setI, xsz_setI, xsl_setI, xtag_setI, xown_setI, xlen_setI, xE_setR, xsz_setR, xsl_setR, xtag_setR, xown_setR, xlen_setR, xE_setW, xsz_setW, xsl_setW, xtag_setW, xown_setW, xlen_setW, xi_setR, xi_setW, xr_setI, xr_setW, xww_setI, xww_setR, xi_setI, xr_setR, xww_setW, xE_new, xsz_new, xsl_new, d1, d4, d5, d7, d8, xt0, xp0, hM.P.tag, dtw, d1w, d2w, d4w, d5w, xtw, xpw, fqw, tqw, dt41, d141, d241, d441, d541, xt41, xp41, fq41, tq41, dt68, d168, d268, d468, d568, xt68, xp68, fq68, tq68, dt85, d185, d285, d485, d585, xt85, xp85, fq85, tq85] <;> rfl)) (by simp [-List.getD_eq_getElem?_getD, xE_setI, xsz_setI, xsl_setI, xtag_setI, xown_setI, xlen_setI, xE_setR, xsz_setR, xsl_setR, xtag_setR, xown_setR, xlen_setR, xE_setW, xsz_setW, xsl_setW, xtag_setW, xown_setW, xlen_setW, xi_setR, xi_setW, xr_setI, xr_setW, xww_setI, xww_setR, xi_setI, xr_setR, xww_setW, xE_new, xsz_new, xsl_new, d1, d4, d5, d7, d8, xt0, xp0, hM.P.tag, dtw, d1w, d2w, d4w, d5w, xtw, xpw, fqw, tqw, dt41, d141, d241, d441, d541, xt41, xp41, fq41, tq41, dt68, d168, d268, d468, d568, xt68, xp68, fq68, tq68, dt85, d185, d285, d485, d585, xt85, xp85, fq85, tq85]) ?_
      refine xw_getS (b := (aL Z 2)) (pc := 113) fd_X1_240 dX1_bars_113 (by first | assumption | (simp [-List.getD_eq_getElem?_getD, xE_setI, xsz_setI, xsl_setI, xtag_setI, xown_setI, xlen_setI, xE_setR, xsz_setR, xsl_setR, xtag_setR, xown_setR, xlen_setR, xE_setW, xsz_setW, xsl_setW, xtag_setW, xown_setW, xlen_setW, xi_setR, xi_setW, xr_setI, xr_setW, xww_setI, xww_setR, xi_setI, xr_setR, xww_setW, xE_new, xsz_new, xsl_new, d1, d4, d5, d7, d8, xt0, xp0, hM.P.tag, dtw, d1w, d2w, d4w, d5w, xtw, xpw, fqw, tqw, dt41, d141, d241, d441, d541, xt41, xp41, fq41, tq41, dt68, d168, d268, d468, d568, xt68, xp68, fq68, tq68, dt85, d185, d285, d485, d585, xt85, xp85, fq85, tq85, xsub]; done) | (simp [-List.getD_eq_getElem?_getD, xE_setI, xsz_setI, xsl_setI, xtag_setI, xown_setI, xlen_setI, xE_setR, xsz_setR, xsl_setR, xtag_setR, xown_setR, xlen_setR, xE_setW, xsz_setW, xsl_setW, xtag_setW, xown_setW, xlen_setW, xi_setR, xi_setW, xr_setI, xr_setW, xww_setI, xww_setR, xi_setI, xr_setR, xww_setW, xE_new, xsz_new, xsl_new, d1, d4, d5, d7, d8, xt0, xp0, hM.P.tag, dtw, d1w, d2w, d4w, d5w, xtw, xpw, fqw, tqw, dt41, d141, d241, d441, d541, xt41, xp41, fq41, tq41, dt68, d168, d268, d468, d568, xt68, xp68, fq68, tq68, dt85, d185, d285, d485, d585, xt85, xp85, fq85, tq85] <;> rfl)) (by simp [-List.getD_eq_getElem?_getD, xE_setI, xsz_setI, xsl_setI, xtag_setI, xown_setI, xlen_setI, xE_setR, xsz_setR, xsl_setR, xtag_setR, xown_setR, xlen_setR, xE_setW, xsz_setW, xsl_setW, xtag_setW, xown_setW, xlen_setW, xi_setR, xi_setW, xr_setI, xr_setW, xww_setI, xww_setR, xi_setI, xr_setR, xww_setW, xE_new, xsz_new, xsl_new, d1, d4, d5, d7, d8, xt0, xp0, hM.P.tag, dtw, d1w, d2w, d4w, d5w, xtw, xpw, fqw, tqw, dt41, d141, d241, d441, d541, xt41, xp41, fq41, tq41, dt68, d168, d268, d468, d568, xt68, xp68, fq68, tq68, dt85, d185, d285, d485, d585, xt85, xp85, fq85, tq85]) ?_
      refine xw_aload_n (pc := 116) dX1_bars_116 3 rfl ?_
      refine xw_getNat (k := v) (pc := 117) fd_X1_479 dX1_bars_117 (by first | assumption | (simp [-List.getD_eq_getElem?_getD, xE_setI, xsz_setI, xsl_setI, xtag_setI, xown_setI, xlen_setI, xE_setR, xsz_setR, xsl_setR, xtag_setR, xown_setR, xlen_setR, xE_setW, xsz_setW, xsl_setW, xtag_setW, xown_setW, xlen_setW, xi_setR, xi_setW, xr_setI, xr_setW, xww_setI, xww_setR, xi_setI, xr_setR, xww_setW, xE_new, xsz_new, xsl_new, d1, d4, d5, d7, d8, xt0, xp0, hM.P.tag, dtw, d1w, d2w, d4w, d5w, xtw, xpw, fqw, tqw, dt41, d141, d241, d441, d541, xt41, xp41, fq41, tq41, dt68, d168, d268, d468, d568, xt68, xp68, fq68, tq68, dt85, d185, d285, d485, d585, xt85, xp85, fq85, tq85, xsub]; done) | (simp [-List.getD_eq_getElem?_getD, xE_setI, xsz_setI, xsl_setI, xtag_setI, xown_setI, xlen_setI, xE_setR, xsz_setR, xsl_setR, xtag_setR, xown_setR, xlen_setR, xE_setW, xsz_setW, xsl_setW, xtag_setW, xown_setW, xlen_setW, xi_setR, xi_setW, xr_setI, xr_setW, xww_setI, xww_setR, xi_setI, xr_setR, xww_setW, xE_new, xsz_new, xsl_new, d1, d4, d5, d7, d8, xt0, xp0, hM.P.tag, dtw, d1w, d2w, d4w, d5w, xtw, xpw, fqw, tqw, dt41, d141, d241, d441, d541, xt41, xp41, fq41, tq41, dt68, d168, d268, d468, d568, xt68, xp68, fq68, tq68, dt85, d185, d285, d485, d585, xt85, xp85, fq85, tq85] <;> rfl)) (by simp [-List.getD_eq_getElem?_getD, xE_setI, xsz_setI, xsl_setI, xtag_setI, xown_setI, xlen_setI, xE_setR, xsz_setR, xsl_setR, xtag_setR, xown_setR, xlen_setR, xE_setW, xsz_setW, xsl_setW, xtag_setW, xown_setW, xlen_setW, xi_setR, xi_setW, xr_setI, xr_setW, xww_setI, xww_setR, xi_setI, xr_setR, xww_setW, xE_new, xsz_new, xsl_new, d1, d4, d5, d7, d8, xt0, xp0, hM.P.tag, dtw, d1w, d2w, d4w, d5w, xtw, xpw, fqw, tqw, dt41, d141, d241, d441, d541, xt41, xp41, fq41, tq41, dt68, d168, d268, d468, d568, xt68, xp68, fq68, tq68, dt85, d185, d285, d485, d585, xt85, xp85, fq85, tq85]) ?_
      refine xw_callV (pc := 120) (xr_V (as := [_]) ok_J2_get rfl (by decide) q705 q706 q707 (by rw [hP85.l1.1]; rfl) (by rw [hP85.l1.1]; rfl) dX1_bars_120 rfl rfl (Nat.le_of_ble_eq_true rfl)) (SP_J2_get hP85.l1 v (by omega)) ?_
      refine xw_chkR (pc := 123) dX1_bars_123 q2074 (by exact (hP85.ru hv).1) ?_
      refine xw_aload_n (pc := 126) dX1_bars_126 3 rfl ?_
      refine xw_getNat (k := s) (pc := 127) fd_X1_483 dX1_bars_127 (by first | assumption | (simp [-List.getD_eq_getElem?_getD, xE_setI, xsz_setI, xsl_setI, xtag_setI, xown_setI, xlen_setI, xE_setR, xsz_setR, xsl_setR, xtag_setR, xown_setR, xlen_setR, xE_setW, xsz_setW, xsl_setW, xtag_setW, xown_setW, xlen_setW, xi_setR, xi_setW, xr_setI, xr_setW, xww_setI, xww_setR, xi_setI, xr_setR, xww_setW, xE_new, xsz_new, xsl_new, d1, d4, d5, d7, d8, xt0, xp0, hM.P.tag, dtw, d1w, d2w, d4w, d5w, xtw, xpw, fqw, tqw, dt41, d141, d241, d441, d541, xt41, xp41, fq41, tq41, dt68, d168, d268, d468, d568, xt68, xp68, fq68, tq68, dt85, d185, d285, d485, d585, xt85, xp85, fq85, tq85, xsub]; done) | (simp [-List.getD_eq_getElem?_getD, xE_setI, xsz_setI, xsl_setI, xtag_setI, xown_setI, xlen_setI, xE_setR, xsz_setR, xsl_setR, xtag_setR, xown_setR, xlen_setR, xE_setW, xsz_setW, xsl_setW, xtag_setW, xown_setW, xlen_setW, xi_setR, xi_setW, xr_setI, xr_setW, xww_setI, xww_setR, xi_setI, xr_setR, xww_setW, xE_new, xsz_new, xsl_new, d1, d4, d5, d7, d8, xt0, xp0, hM.P.tag, dtw, d1w, d2w, d4w, d5w, xtw, xpw, fqw, tqw, dt41, d141, d241, d441, d541, xt41, xp41, fq41, tq41, dt68, d168, d268, d468, d568, xt68, xp68, fq68, tq68, dt85, d185, d285, d485, d585, xt85, xp85, fq85, tq85] <;> rfl)) (by simp [-List.getD_eq_getElem?_getD, xE_setI, xsz_setI, xsl_setI, xtag_setI, xown_setI, xlen_setI, xE_setR, xsz_setR, xsl_setR, xtag_setR, xown_setR, xlen_setR, xE_setW, xsz_setW, xsl_setW, xtag_setW, xown_setW, xlen_setW, xi_setR, xi_setW, xr_setI, xr_setW, xww_setI, xww_setR, xi_setI, xr_setR, xww_setW, xE_new, xsz_new, xsl_new, d1, d4, d5, d7, d8, xt0, xp0, hM.P.tag, dtw, d1w, d2w, d4w, d5w, xtw, xpw, fqw, tqw, dt41, d141, d241, d441, d541, xt41, xp41, fq41, tq41, dt68, d168, d268, d468, d568, xt68, xp68, fq68, tq68, dt85, d185, d285, d485, d585, xt85, xp85, fq85, tq85]) ?_
      refine xw_callF (pc := 130) (xr_V (as := [_, _, _]) ok_X2_barsException rfl (by decide) q1346 q1347 q1348 (by first | (rw [hP0.tag]; rfl) | (rw [hP41.tag]; rfl) | (rw [hP68.tag]; rfl) | (rw [hP85.tag]; rfl)) (by first | (rw [hP0.tag]; rfl) | (rw [hP41.tag]; rfl) | (rw [hP68.tag]; rfl) | (rw [hP85.tag]; rfl)) dX1_bars_130 rfl rfl (Nat.le_of_ble_eq_true rfl)) (SP_X2_barsException hP85 hWB hv (inR_lt (wBa_s (of_decide_eq_true hb93)).2 hs (by omega) (by omega))) ?_
      intro g130 hc130 hm130
      refine xw_goto (pc := 133) 137 dX1_bars_133 rfl ?_
      refine xw_aret (pc := 137) (.object "PolicyNotation$Whys") dX1_bars_137 rfl ?_
      first
      | (refine ⟨rfl, ?_, ((((Fw.tr F41).tr F68).tr F85).sub (fun _ h => h) (by omega))⟩
         unfold wBb
         dsimp only
         rw [if_pos hv, if_neg (of_decide_eq_false hb93)]
         exact hWB)
      | (refine ⟨rfl, ?_, (((((Fw.tr F41).tr F68).tr F85).tr hc130.2).sub (fun _ h => h) (by omega))⟩
         unfold wBb
         dsimp only
         rw [if_pos hv, if_pos (of_decide_eq_true hb93)]
         exact hc130.1)
  · replace hb55 := bI_0.mp hb55
    refine xw_iconst (v := nI 1) (pc := 58) dX1_bars_58 rfl ?_
    refine xw_goto (pc := 59) 63 dX1_bars_59 rfl ?_
    refine xw_iconst (v := nI 1) (pc := 63) dX1_bars_63 rfl ?_
    refine xw_aload_n (pc := 64) dX1_bars_64 2 rfl ?_
    refine xw_getNat (k := s) (pc := 65) fd_X1_483 dX1_bars_65 (by first | assumption | (simp [-List.getD_eq_getElem?_getD, xE_setI, xsz_setI, xsl_setI, xtag_setI, xown_setI, xlen_setI, xE_setR, xsz_setR, xsl_setR, xtag_setR, xown_setR, xlen_setR, xE_setW, xsz_setW, xsl_setW, xtag_setW, xown_setW, xlen_setW, xi_setR, xi_setW, xr_setI, xr_setW, xww_setI, xww_setR, xi_setI, xr_setR, xww_setW, xE_new, xsz_new, xsl_new, d1, d4, d5, d7, d8, xt0, xp0, hM.P.tag, dtw, d1w, d2w, d4w, d5w, xtw, xpw, fqw, tqw, dt41, d141, d241, d441, d541, xt41, xp41, fq41, tq41, xsub]; done) | (simp [-List.getD_eq_getElem?_getD, xE_setI, xsz_setI, xsl_setI, xtag_setI, xown_setI, xlen_setI, xE_setR, xsz_setR, xsl_setR, xtag_setR, xown_setR, xlen_setR, xE_setW, xsz_setW, xsl_setW, xtag_setW, xown_setW, xlen_setW, xi_setR, xi_setW, xr_setI, xr_setW, xww_setI, xww_setR, xi_setI, xr_setR, xww_setW, xE_new, xsz_new, xsl_new, d1, d4, d5, d7, d8, xt0, xp0, hM.P.tag, dtw, d1w, d2w, d4w, d5w, xtw, xpw, fqw, tqw, dt41, d141, d241, d441, d541, xt41, xp41, fq41, tq41] <;> rfl)) (by simp [-List.getD_eq_getElem?_getD, xE_setI, xsz_setI, xsl_setI, xtag_setI, xown_setI, xlen_setI, xE_setR, xsz_setR, xsl_setR, xtag_setR, xown_setR, xlen_setR, xE_setW, xsz_setW, xsl_setW, xtag_setW, xown_setW, xlen_setW, xi_setR, xi_setW, xr_setI, xr_setW, xww_setI, xww_setR, xi_setI, xr_setR, xww_setW, xE_new, xsz_new, xsl_new, d1, d4, d5, d7, d8, xt0, xp0, hM.P.tag, dtw, d1w, d2w, d4w, d5w, xtw, xpw, fqw, tqw, dt41, d141, d241, d441, d541, xt41, xp41, fq41, tq41]) ?_
    refine xw_callF (pc := 68) (xr_V (as := [_, _, _]) ok_X10_asks rfl (by decide) q1447 q1284 q1285 (by first | (rw [hWw.1]; rfl) | (rw [hW41.1]; rfl) | (rw [hW68.1]; rfl) | (rw [hW85.1]; rfl)) (by first | (rw [hWw.1]; rfl) | (rw [hW41.1]; rfl) | (rw [hW68.1]; rfl) | (rw [hW85.1]; rfl)) dX1_bars_68 rfl rfl (Nat.le_of_ble_eq_true rfl)) (SP_X10_asks (b := true) hW41 (by rfl) (by decide)) ?_
    intro g68 hc68 hm68
    obtain ⟨hW68, F68⟩ := hc68
    have hP68 := hP41.fr F68 (fun o h1 h2 => by have := hM.P.p0; unfold oP at h1; unfold oEq at h2; omega) (by unfold oEq; omega)
    have dt68 : xtag g68 D = 16 := (F68.tag dl41).trans dt41
    have do68 : xown g68 D = 14 := (F68.own dl41).trans do41
    have dl68 := F68.lt dl41
    have di68 : ∀ j, xi g68 D j = xi g D j := fun j => (F68.i' dl41 (by rw [do41]; unfold oEq; omega)).trans (di41 j)
    have d168 : xi g68 D 1 = nI v := (di68 1).trans d4
    have d268 : xi g68 D 2 = nI s := (di68 2).trans d5
    have d468 : xi g68 D 4 = nI f := (di68 4).trans d7
    have d568 : xi g68 D 5 = nI l := (di68 5).trans d8
    have xt68 : xtag g68 x = 1 := (F68.tag xl41).trans xt41
    have xo68 : xown g68 x = 1 := (F68.own xl41).trans xo41
    have xl68 := F68.lt xl41
    have xp68 : xr g68 x 0 = some p := (F68.r' xl41 (by rw [xo41]; unfold oEq; omega)).trans xp41
    have fq68 : xr g68 p 1 = some (aL Z 2) := hP68.f1
    have tq68 : xtag g68 p = 2 := hP68.tag
    refine xw_astore_n (l' := [(3, _), (2, _), (0, _), (1, _)]) (pc := 71) dX1_bars_71 rfl (by decide) rfl ?_
    refine xw_aload_n (pc := 72) dX1_bars_72 2 rfl ?_
    refine xw_getS (b := p) (pc := 73) fd_X1_10 dX1_bars_73 (by first | assumption | (simp [-List.getD_eq_getElem?_getD, xE_setI, xsz_setI, xsl_setI, xtag_setI, xown_setI, xlen_setI, xE_setR, xsz_setR, xsl_setR, xtag_setR, xown_setR, xlen_setR, xE_setW, xsz_setW, xsl_setW, xtag_setW, xown_setW, xlen_setW, xi_setR, xi_setW, xr_setI, xr_setW, xww_setI, xww_setR, xi_setI, xr_setR, xww_setW, xE_new, xsz_new, xsl_new, d1, d4, d5, d7, d8, xt0, xp0, hM.P.tag, dtw, d1w, d2w, d4w, d5w, xtw, xpw, fqw, tqw, dt41, d141, d241, d441, d541, xt41, xp41, fq41, tq41, dt68, d168, d268, d468, d568, xt68, xp68, fq68, tq68, xsub]; done) | (simp [-List.getD_eq_getElem?_getD, xE_setI, xsz_setI, xsl_setI, xtag_setI, xown_setI, xlen_setI, xE_setR, xsz_setR, xsl_setR, xtag_setR, xown_setR, xlen_setR, xE_setW, xsz_setW, xsl_setW, xtag_setW, xown_setW, xlen_setW, xi_setR, xi_setW, xr_setI, xr_setW, xww_setI, xww_setR, xi_setI, xr_setR, xww_setW, xE_new, xsz_new, xsl_new, d1, d4, d5, d7, d8, xt0, xp0, hM.P.tag, dtw, d1w, d2w, d4w, d5w, xtw, xpw, fqw, tqw, dt41, d141, d241, d441, d541, xt41, xp41, fq41, tq41, dt68, d168, d268, d468, d568, xt68, xp68, fq68, tq68] <;> rfl)) (by simp [-List.getD_eq_getElem?_getD, xE_setI, xsz_setI, xsl_setI, xtag_setI, xown_setI, xlen_setI, xE_setR, xsz_setR, xsl_setR, xtag_setR, xown_setR, xlen_setR, xE_setW, xsz_setW, xsl_setW, xtag_setW, xown_setW, xlen_setW, xi_setR, xi_setW, xr_setI, xr_setW, xww_setI, xww_setR, xi_setI, xr_setR, xww_setW, xE_new, xsz_new, xsl_new, d1, d4, d5, d7, d8, xt0, xp0, hM.P.tag, dtw, d1w, d2w, d4w, d5w, xtw, xpw, fqw, tqw, dt41, d141, d241, d441, d541, xt41, xp41, fq41, tq41, dt68, d168, d268, d468, d568, xt68, xp68, fq68, tq68]) ?_
    refine xw_aload_n (pc := 76) dX1_bars_76 0 rfl ?_
    refine xw_aload_n (pc := 77) dX1_bars_77 3 rfl ?_
    refine xw_getNat (k := f) (pc := 78) fd_X1_484 dX1_bars_78 (by first | assumption | (simp [-List.getD_eq_getElem?_getD, xE_setI, xsz_setI, xsl_setI, xtag_setI, xown_setI, xlen_setI, xE_setR, xsz_setR, xsl_setR, xtag_setR, xown_setR, xlen_setR, xE_setW, xsz_setW, xsl_setW, xtag_setW, xown_setW, xlen_setW, xi_setR, xi_setW, xr_setI, xr_setW, xww_setI, xww_setR, xi_setI, xr_setR, xww_setW, xE_new, xsz_new, xsl_new, d1, d4, d5, d7, d8, xt0, xp0, hM.P.tag, dtw, d1w, d2w, d4w, d5w, xtw, xpw, fqw, tqw, dt41, d141, d241, d441, d541, xt41, xp41, fq41, tq41, dt68, d168, d268, d468, d568, xt68, xp68, fq68, tq68, xsub]; done) | (simp [-List.getD_eq_getElem?_getD, xE_setI, xsz_setI, xsl_setI, xtag_setI, xown_setI, xlen_setI, xE_setR, xsz_setR, xsl_setR, xtag_setR, xown_setR, xlen_setR, xE_setW, xsz_setW, xsl_setW, xtag_setW, xown_setW, xlen_setW, xi_setR, xi_setW, xr_setI, xr_setW, xww_setI, xww_setR, xi_setI, xr_setR, xww_setW, xE_new, xsz_new, xsl_new, d1, d4, d5, d7, d8, xt0, xp0, hM.P.tag, dtw, d1w, d2w, d4w, d5w, xtw, xpw, fqw, tqw, dt41, d141, d241, d441, d541, xt41, xp41, fq41, tq41, dt68, d168, d268, d468, d568, xt68, xp68, fq68, tq68] <;> rfl)) (by simp [-List.getD_eq_getElem?_getD, xE_setI, xsz_setI, xsl_setI, xtag_setI, xown_setI, xlen_setI, xE_setR, xsz_setR, xsl_setR, xtag_setR, xown_setR, xlen_setR, xE_setW, xsz_setW, xsl_setW, xtag_setW, xown_setW, xlen_setW, xi_setR, xi_setW, xr_setI, xr_setW, xww_setI, xww_setR, xi_setI, xr_setR, xww_setW, xE_new, xsz_new, xsl_new, d1, d4, d5, d7, d8, xt0, xp0, hM.P.tag, dtw, d1w, d2w, d4w, d5w, xtw, xpw, fqw, tqw, dt41, d141, d241, d441, d541, xt41, xp41, fq41, tq41, dt68, d168, d268, d468, d568, xt68, xp68, fq68, tq68]) ?_
    refine xw_aload_n (pc := 81) dX1_bars_81 3 rfl ?_
    refine xw_getNat (k := l) (pc := 82) fd_X1_485 dX1_bars_82 (by first | assumption | (simp [-List.getD_eq_getElem?_getD, xE_setI, xsz_setI, xsl_setI, xtag_setI, xown_setI, xlen_setI, xE_setR, xsz_setR, xsl_setR, xtag_setR, xown_setR, xlen_setR, xE_setW, xsz_setW, xsl_setW, xtag_setW, xown_setW, xlen_setW, xi_setR, xi_setW, xr_setI, xr_setW, xww_setI, xww_setR, xi_setI, xr_setR, xww_setW, xE_new, xsz_new, xsl_new, d1, d4, d5, d7, d8, xt0, xp0, hM.P.tag, dtw, d1w, d2w, d4w, d5w, xtw, xpw, fqw, tqw, dt41, d141, d241, d441, d541, xt41, xp41, fq41, tq41, dt68, d168, d268, d468, d568, xt68, xp68, fq68, tq68, xsub]; done) | (simp [-List.getD_eq_getElem?_getD, xE_setI, xsz_setI, xsl_setI, xtag_setI, xown_setI, xlen_setI, xE_setR, xsz_setR, xsl_setR, xtag_setR, xown_setR, xlen_setR, xE_setW, xsz_setW, xsl_setW, xtag_setW, xown_setW, xlen_setW, xi_setR, xi_setW, xr_setI, xr_setW, xww_setI, xww_setR, xi_setI, xr_setR, xww_setW, xE_new, xsz_new, xsl_new, d1, d4, d5, d7, d8, xt0, xp0, hM.P.tag, dtw, d1w, d2w, d4w, d5w, xtw, xpw, fqw, tqw, dt41, d141, d241, d441, d541, xt41, xp41, fq41, tq41, dt68, d168, d268, d468, d568, xt68, xp68, fq68, tq68] <;> rfl)) (by simp [-List.getD_eq_getElem?_getD, xE_setI, xsz_setI, xsl_setI, xtag_setI, xown_setI, xlen_setI, xE_setR, xsz_setR, xsl_setR, xtag_setR, xown_setR, xlen_setR, xE_setW, xsz_setW, xsl_setW, xtag_setW, xown_setW, xlen_setW, xi_setR, xi_setW, xr_setI, xr_setW, xww_setI, xww_setR, xi_setI, xr_setR, xww_setW, xE_new, xsz_new, xsl_new, d1, d4, d5, d7, d8, xt0, xp0, hM.P.tag, dtw, d1w, d2w, d4w, d5w, xtw, xpw, fqw, tqw, dt41, d141, d241, d441, d541, xt41, xp41, fq41, tq41, dt68, d168, d268, d468, d568, xt68, xp68, fq68, tq68]) ?_
    refine xw_callF (pc := 85) (xr_V (as := [_, _, _]) ok_X2_barsRule rfl (by decide) q1279 q1280 q1281 (by first | (rw [hP0.tag]; rfl) | (rw [hP41.tag]; rfl) | (rw [hP68.tag]; rfl) | (rw [hP85.tag]; rfl)) (by first | (rw [hP0.tag]; rfl) | (rw [hP41.tag]; rfl) | (rw [hP68.tag]; rfl) | (rw [hP85.tag]; rfl)) dX1_bars_85 rfl rfl (Nat.le_of_ble_eq_true rfl)) (SP_X2_barsRule hP68.pl hW68) ?_
    intro g85 hc85 hm85
    obtain ⟨hW85, F85⟩ := hc85
    have hP85 := hP68.fr F85 (fun o h1 h2 => by have := hM.P.p0; unfold oP at h1; unfold oEq at h2; omega) (by unfold oEq; omega)
    have dt85 : xtag g85 D = 16 := (F85.tag dl68).trans dt68
    have do85 : xown g85 D = 14 := (F85.own dl68).trans do68
    have dl85 := F85.lt dl68
    have di85 : ∀ j, xi g85 D j = xi g D j := fun j => (F85.i' dl68 (by rw [do68]; unfold oEq; omega)).trans (di68 j)
    have d185 : xi g85 D 1 = nI v := (di85 1).trans d4
    have d285 : xi g85 D 2 = nI s := (di85 2).trans d5
    have d485 : xi g85 D 4 = nI f := (di85 4).trans d7
    have d585 : xi g85 D 5 = nI l := (di85 5).trans d8
    have xt85 : xtag g85 x = 1 := (F85.tag xl68).trans xt68
    have xo85 : xown g85 x = 1 := (F85.own xl68).trans xo68
    have xl85 := F85.lt xl68
    have xp85 : xr g85 x 0 = some p := (F85.r' xl68 (by rw [xo68]; unfold oEq; omega)).trans xp68
    have fq85 : xr g85 p 1 = some (aL Z 2) := hP85.f1
    have tq85 : xtag g85 p = 2 := hP85.tag
    have hWB : xWy g85 (xsz g) (wBa n rr false (some v) s f l) := by
      unfold wBa
      rw [hlc] at hb55
      rw [hb55, ← hlr]
      exact hW85
    refine xw_pop (pc := 88) dX1_bars_88 rfl ?_
    refine xw_aload_n (pc := 89) dX1_bars_89 0 rfl ?_
    refine xw_callV (pc := 90) (xr_V (as := []) ok_X10_isNone rfl (by decide) q1306 q1307 q1308 (by first | (rw [hWw.1]; rfl) | (rw [hW41.1]; rfl) | (rw [hW68.1]; rfl) | (rw [hW85.1]; rfl)) (by first | (rw [hWw.1]; rfl) | (rw [hW41.1]; rfl) | (rw [hW68.1]; rfl) | (rw [hW85.1]; rfl)) dX1_bars_90 rfl rfl (Nat.le_of_ble_eq_true rfl)) (SP_X10_isNone hWB) ?_
    refine xw_if_eq (pc := 93) 136 dX1_bars_93 rfl (fun hb93 => ?_) (fun hb93 => ?_)
    · replace hb93 := bI_0.mp hb93
      refine xw_aload_n (pc := 136) dX1_bars_136 0 rfl ?_
      refine xw_aret (pc := 137) (.object "PolicyNotation$Whys") dX1_bars_137 rfl ?_
      first
      | (refine ⟨rfl, ?_, ((((Fw.tr F41).tr F68).tr F85).sub (fun _ h => h) (by omega))⟩
         unfold wBb
         dsimp only
         rw [if_pos hv, if_neg (of_decide_eq_false hb93)]
         exact hWB)
      | (refine ⟨rfl, ?_, (((((Fw.tr F41).tr F68).tr F85).tr hc130.2).sub (fun _ h => h) (by omega))⟩
         unfold wBb
         dsimp only
         rw [if_pos hv, if_pos (of_decide_eq_true hb93)]
         exact hc130.1)
    · replace hb93 := bI_n0.mp hb93
      refine xw_aload_n (pc := 96) dX1_bars_96 3 rfl ?_
      refine xw_getNat (k := v) (pc := 97) fd_X1_479 dX1_bars_97 (by first | assumption | (simp [-List.getD_eq_getElem?_getD, xE_setI, xsz_setI, xsl_setI, xtag_setI, xown_setI, xlen_setI, xE_setR, xsz_setR, xsl_setR, xtag_setR, xown_setR, xlen_setR, xE_setW, xsz_setW, xsl_setW, xtag_setW, xown_setW, xlen_setW, xi_setR, xi_setW, xr_setI, xr_setW, xww_setI, xww_setR, xi_setI, xr_setR, xww_setW, xE_new, xsz_new, xsl_new, d1, d4, d5, d7, d8, xt0, xp0, hM.P.tag, dtw, d1w, d2w, d4w, d5w, xtw, xpw, fqw, tqw, dt41, d141, d241, d441, d541, xt41, xp41, fq41, tq41, dt68, d168, d268, d468, d568, xt68, xp68, fq68, tq68, dt85, d185, d285, d485, d585, xt85, xp85, fq85, tq85, xsub]; done) | (simp [-List.getD_eq_getElem?_getD, xE_setI, xsz_setI, xsl_setI, xtag_setI, xown_setI, xlen_setI, xE_setR, xsz_setR, xsl_setR, xtag_setR, xown_setR, xlen_setR, xE_setW, xsz_setW, xsl_setW, xtag_setW, xown_setW, xlen_setW, xi_setR, xi_setW, xr_setI, xr_setW, xww_setI, xww_setR, xi_setI, xr_setR, xww_setW, xE_new, xsz_new, xsl_new, d1, d4, d5, d7, d8, xt0, xp0, hM.P.tag, dtw, d1w, d2w, d4w, d5w, xtw, xpw, fqw, tqw, dt41, d141, d241, d441, d541, xt41, xp41, fq41, tq41, dt68, d168, d268, d468, d568, xt68, xp68, fq68, tq68, dt85, d185, d285, d485, d585, xt85, xp85, fq85, tq85] <;> rfl)) (by simp [-List.getD_eq_getElem?_getD, xE_setI, xsz_setI, xsl_setI, xtag_setI, xown_setI, xlen_setI, xE_setR, xsz_setR, xsl_setR, xtag_setR, xown_setR, xlen_setR, xE_setW, xsz_setW, xsl_setW, xtag_setW, xown_setW, xlen_setW, xi_setR, xi_setW, xr_setI, xr_setW, xww_setI, xww_setR, xi_setI, xr_setR, xww_setW, xE_new, xsz_new, xsl_new, d1, d4, d5, d7, d8, xt0, xp0, hM.P.tag, dtw, d1w, d2w, d4w, d5w, xtw, xpw, fqw, tqw, dt41, d141, d241, d441, d541, xt41, xp41, fq41, tq41, dt68, d168, d268, d468, d568, xt68, xp68, fq68, tq68, dt85, d185, d285, d485, d585, xt85, xp85, fq85, tq85]) ?_
      refine xw_iconst (v := -1) (pc := 100) dX1_bars_100 (by decide +kernel) ?_
      refine xw_icmp_eq (pc := 101) 136 dX1_bars_101 rfl (fun hb101 => ?_) (fun hb101 => ?_)
      · exfalso
        exact m1_ne (by omega) hb101.symm
      refine xw_aload_n (pc := 104) dX1_bars_104 2 rfl ?_
      refine xw_getS (b := p) (pc := 105) fd_X1_10 dX1_bars_105 (by first | assumption | (simp [-List.getD_eq_getElem?_getD, xE_setI, xsz_setI, xsl_setI, xtag_setI, xown_setI, xlen_setI, xE_setR, xsz_setR, xsl_setR, xtag_setR, xown_setR, xlen_setR, xE_setW, xsz_setW, xsl_setW, xtag_setW, xown_setW, xlen_setW, xi_setR, xi_setW, xr_setI, xr_setW, xww_setI, xww_setR, xi_setI, xr_setR, xww_setW, xE_new, xsz_new, xsl_new, d1, d4, d5, d7, d8, xt0, xp0, hM.P.tag, dtw, d1w, d2w, d4w, d5w, xtw, xpw, fqw, tqw, dt41, d141, d241, d441, d541, xt41, xp41, fq41, tq41, dt68, d168, d268, d468, d568, xt68, xp68, fq68, tq68, dt85, d185, d285, d485, d585, xt85, xp85, fq85, tq85, xsub]; done) | (simp [-List.getD_eq_getElem?_getD, xE_setI, xsz_setI, xsl_setI, xtag_setI, xown_setI, xlen_setI, xE_setR, xsz_setR, xsl_setR, xtag_setR, xown_setR, xlen_setR, xE_setW, xsz_setW, xsl_setW, xtag_setW, xown_setW, xlen_setW, xi_setR, xi_setW, xr_setI, xr_setW, xww_setI, xww_setR, xi_setI, xr_setR, xww_setW, xE_new, xsz_new, xsl_new, d1, d4, d5, d7, d8, xt0, xp0, hM.P.tag, dtw, d1w, d2w, d4w, d5w, xtw, xpw, fqw, tqw, dt41, d141, d241, d441, d541, xt41, xp41, fq41, tq41, dt68, d168, d268, d468, d568, xt68, xp68, fq68, tq68, dt85, d185, d285, d485, d585, xt85, xp85, fq85, tq85] <;> rfl)) (by simp [-List.getD_eq_getElem?_getD, xE_setI, xsz_setI, xsl_setI, xtag_setI, xown_setI, xlen_setI, xE_setR, xsz_setR, xsl_setR, xtag_setR, xown_setR, xlen_setR, xE_setW, xsz_setW, xsl_setW, xtag_setW, xown_setW, xlen_setW, xi_setR, xi_setW, xr_setI, xr_setW, xww_setI, xww_setR, xi_setI, xr_setR, xww_setW, xE_new, xsz_new, xsl_new, d1, d4, d5, d7, d8, xt0, xp0, hM.P.tag, dtw, d1w, d2w, d4w, d5w, xtw, xpw, fqw, tqw, dt41, d141, d241, d441, d541, xt41, xp41, fq41, tq41, dt68, d168, d268, d468, d568, xt68, xp68, fq68, tq68, dt85, d185, d285, d485, d585, xt85, xp85, fq85, tq85]) ?_
      refine xw_aload_n (pc := 108) dX1_bars_108 0 rfl ?_
      refine xw_aload_n (pc := 109) dX1_bars_109 2 rfl ?_
      refine xw_getS (b := p) (pc := 110) fd_X1_10 dX1_bars_110 (by first | assumption | (simp [-List.getD_eq_getElem?_getD, xE_setI, xsz_setI, xsl_setI, xtag_setI, xown_setI, xlen_setI, xE_setR, xsz_setR, xsl_setR, xtag_setR, xown_setR, xlen_setR, xE_setW, xsz_setW, xsl_setW, xtag_setW, xown_setW, xlen_setW, xi_setR, xi_setW, xr_setI, xr_setW, xww_setI, xww_setR, xi_setI, xr_setR, xww_setW, xE_new, xsz_new, xsl_new, d1, d4, d5, d7, d8, xt0, xp0, hM.P.tag, dtw, d1w, d2w, d4w, d5w, xtw, xpw, fqw, tqw, dt41, d141, d241, d441, d541, xt41, xp41, fq41, tq41, dt68, d168, d268, d468, d568, xt68, xp68, fq68, tq68, dt85, d185, d285, d485, d585, xt85, xp85, fq85, tq85, xsub]; done) | (simp [-List.getD_eq_getElem?_getD, xE_setI, xsz_setI, xsl_setI, xtag_setI, xown_setI, xlen_setI, xE_setR, xsz_setR, xsl_setR, xtag_setR, xown_setR, xlen_setR, xE_setW, xsz_setW, xsl_setW, xtag_setW, xown_setW, xlen_setW, xi_setR, xi_setW, xr_setI, xr_setW, xww_setI, xww_setR, xi_setI, xr_setR, xww_setW, xE_new, xsz_new, xsl_new, d1, d4, d5, d7, d8, xt0, xp0, hM.P.tag, dtw, d1w, d2w, d4w, d5w, xtw, xpw, fqw, tqw, dt41, d141, d241, d441, d541, xt41, xp41, fq41, tq41, dt68, d168, d268, d468, d568, xt68, xp68, fq68, tq68, dt85, d185, d285, d485, d585, xt85, xp85, fq85, tq85] <;> rfl)) (by simp [-List.getD_eq_getElem?_getD, xE_setI, xsz_setI, xsl_setI, xtag_setI, xown_setI, xlen_setI, xE_setR, xsz_setR, xsl_setR, xtag_setR, xown_setR, xlen_setR, xE_setW, xsz_setW, xsl_setW, xtag_setW, xown_setW, xlen_setW, xi_setR, xi_setW, xr_setI, xr_setW, xww_setI, xww_setR, xi_setI, xr_setR, xww_setW, xE_new, xsz_new, xsl_new, d1, d4, d5, d7, d8, xt0, xp0, hM.P.tag, dtw, d1w, d2w, d4w, d5w, xtw, xpw, fqw, tqw, dt41, d141, d241, d441, d541, xt41, xp41, fq41, tq41, dt68, d168, d268, d468, d568, xt68, xp68, fq68, tq68, dt85, d185, d285, d485, d585, xt85, xp85, fq85, tq85]) ?_
      refine xw_getS (b := (aL Z 2)) (pc := 113) fd_X1_240 dX1_bars_113 (by first | assumption | (simp [-List.getD_eq_getElem?_getD, xE_setI, xsz_setI, xsl_setI, xtag_setI, xown_setI, xlen_setI, xE_setR, xsz_setR, xsl_setR, xtag_setR, xown_setR, xlen_setR, xE_setW, xsz_setW, xsl_setW, xtag_setW, xown_setW, xlen_setW, xi_setR, xi_setW, xr_setI, xr_setW, xww_setI, xww_setR, xi_setI, xr_setR, xww_setW, xE_new, xsz_new, xsl_new, d1, d4, d5, d7, d8, xt0, xp0, hM.P.tag, dtw, d1w, d2w, d4w, d5w, xtw, xpw, fqw, tqw, dt41, d141, d241, d441, d541, xt41, xp41, fq41, tq41, dt68, d168, d268, d468, d568, xt68, xp68, fq68, tq68, dt85, d185, d285, d485, d585, xt85, xp85, fq85, tq85, xsub]; done) | (simp [-List.getD_eq_getElem?_getD, xE_setI, xsz_setI, xsl_setI, xtag_setI, xown_setI, xlen_setI, xE_setR, xsz_setR, xsl_setR, xtag_setR, xown_setR, xlen_setR, xE_setW, xsz_setW, xsl_setW, xtag_setW, xown_setW, xlen_setW, xi_setR, xi_setW, xr_setI, xr_setW, xww_setI, xww_setR, xi_setI, xr_setR, xww_setW, xE_new, xsz_new, xsl_new, d1, d4, d5, d7, d8, xt0, xp0, hM.P.tag, dtw, d1w, d2w, d4w, d5w, xtw, xpw, fqw, tqw, dt41, d141, d241, d441, d541, xt41, xp41, fq41, tq41, dt68, d168, d268, d468, d568, xt68, xp68, fq68, tq68, dt85, d185, d285, d485, d585, xt85, xp85, fq85, tq85] <;> rfl)) (by simp [-List.getD_eq_getElem?_getD, xE_setI, xsz_setI, xsl_setI, xtag_setI, xown_setI, xlen_setI, xE_setR, xsz_setR, xsl_setR, xtag_setR, xown_setR, xlen_setR, xE_setW, xsz_setW, xsl_setW, xtag_setW, xown_setW, xlen_setW, xi_setR, xi_setW, xr_setI, xr_setW, xww_setI, xww_setR, xi_setI, xr_setR, xww_setW, xE_new, xsz_new, xsl_new, d1, d4, d5, d7, d8, xt0, xp0, hM.P.tag, dtw, d1w, d2w, d4w, d5w, xtw, xpw, fqw, tqw, dt41, d141, d241, d441, d541, xt41, xp41, fq41, tq41, dt68, d168, d268, d468, d568, xt68, xp68, fq68, tq68, dt85, d185, d285, d485, d585, xt85, xp85, fq85, tq85]) ?_
      refine xw_aload_n (pc := 116) dX1_bars_116 3 rfl ?_
      refine xw_getNat (k := v) (pc := 117) fd_X1_479 dX1_bars_117 (by first | assumption | (simp [-List.getD_eq_getElem?_getD, xE_setI, xsz_setI, xsl_setI, xtag_setI, xown_setI, xlen_setI, xE_setR, xsz_setR, xsl_setR, xtag_setR, xown_setR, xlen_setR, xE_setW, xsz_setW, xsl_setW, xtag_setW, xown_setW, xlen_setW, xi_setR, xi_setW, xr_setI, xr_setW, xww_setI, xww_setR, xi_setI, xr_setR, xww_setW, xE_new, xsz_new, xsl_new, d1, d4, d5, d7, d8, xt0, xp0, hM.P.tag, dtw, d1w, d2w, d4w, d5w, xtw, xpw, fqw, tqw, dt41, d141, d241, d441, d541, xt41, xp41, fq41, tq41, dt68, d168, d268, d468, d568, xt68, xp68, fq68, tq68, dt85, d185, d285, d485, d585, xt85, xp85, fq85, tq85, xsub]; done) | (simp [-List.getD_eq_getElem?_getD, xE_setI, xsz_setI, xsl_setI, xtag_setI, xown_setI, xlen_setI, xE_setR, xsz_setR, xsl_setR, xtag_setR, xown_setR, xlen_setR, xE_setW, xsz_setW, xsl_setW, xtag_setW, xown_setW, xlen_setW, xi_setR, xi_setW, xr_setI, xr_setW, xww_setI, xww_setR, xi_setI, xr_setR, xww_setW, xE_new, xsz_new, xsl_new, d1, d4, d5, d7, d8, xt0, xp0, hM.P.tag, dtw, d1w, d2w, d4w, d5w, xtw, xpw, fqw, tqw, dt41, d141, d241, d441, d541, xt41, xp41, fq41, tq41, dt68, d168, d268, d468, d568, xt68, xp68, fq68, tq68, dt85, d185, d285, d485, d585, xt85, xp85, fq85, tq85] <;> rfl)) (by simp [-List.getD_eq_getElem?_getD, xE_setI, xsz_setI, xsl_setI, xtag_setI, xown_setI, xlen_setI, xE_setR, xsz_setR, xsl_setR, xtag_setR, xown_setR, xlen_setR, xE_setW, xsz_setW, xsl_setW, xtag_setW, xown_setW, xlen_setW, xi_setR, xi_setW, xr_setI, xr_setW, xww_setI, xww_setR, xi_setI, xr_setR, xww_setW, xE_new, xsz_new, xsl_new, d1, d4, d5, d7, d8, xt0, xp0, hM.P.tag, dtw, d1w, d2w, d4w, d5w, xtw, xpw, fqw, tqw, dt41, d141, d241, d441, d541, xt41, xp41, fq41, tq41, dt68, d168, d268, d468, d568, xt68, xp68, fq68, tq68, dt85, d185, d285, d485, d585, xt85, xp85, fq85, tq85]) ?_
      refine xw_callV (pc := 120) (xr_V (as := [_]) ok_J2_get rfl (by decide) q705 q706 q707 (by rw [hP85.l1.1]; rfl) (by rw [hP85.l1.1]; rfl) dX1_bars_120 rfl rfl (Nat.le_of_ble_eq_true rfl)) (SP_J2_get hP85.l1 v (by omega)) ?_
      refine xw_chkR (pc := 123) dX1_bars_123 q2074 (by exact (hP85.ru hv).1) ?_
      refine xw_aload_n (pc := 126) dX1_bars_126 3 rfl ?_
      refine xw_getNat (k := s) (pc := 127) fd_X1_483 dX1_bars_127 (by first | assumption | (simp [-List.getD_eq_getElem?_getD, xE_setI, xsz_setI, xsl_setI, xtag_setI, xown_setI, xlen_setI, xE_setR, xsz_setR, xsl_setR, xtag_setR, xown_setR, xlen_setR, xE_setW, xsz_setW, xsl_setW, xtag_setW, xown_setW, xlen_setW, xi_setR, xi_setW, xr_setI, xr_setW, xww_setI, xww_setR, xi_setI, xr_setR, xww_setW, xE_new, xsz_new, xsl_new, d1, d4, d5, d7, d8, xt0, xp0, hM.P.tag, dtw, d1w, d2w, d4w, d5w, xtw, xpw, fqw, tqw, dt41, d141, d241, d441, d541, xt41, xp41, fq41, tq41, dt68, d168, d268, d468, d568, xt68, xp68, fq68, tq68, dt85, d185, d285, d485, d585, xt85, xp85, fq85, tq85, xsub]; done) | (simp [-List.getD_eq_getElem?_getD, xE_setI, xsz_setI, xsl_setI, xtag_setI, xown_setI, xlen_setI, xE_setR, xsz_setR, xsl_setR, xtag_setR, xown_setR, xlen_setR, xE_setW, xsz_setW, xsl_setW, xtag_setW, xown_setW, xlen_setW, xi_setR, xi_setW, xr_setI, xr_setW, xww_setI, xww_setR, xi_setI, xr_setR, xww_setW, xE_new, xsz_new, xsl_new, d1, d4, d5, d7, d8, xt0, xp0, hM.P.tag, dtw, d1w, d2w, d4w, d5w, xtw, xpw, fqw, tqw, dt41, d141, d241, d441, d541, xt41, xp41, fq41, tq41, dt68, d168, d268, d468, d568, xt68, xp68, fq68, tq68, dt85, d185, d285, d485, d585, xt85, xp85, fq85, tq85] <;> rfl)) (by simp [-List.getD_eq_getElem?_getD, xE_setI, xsz_setI, xsl_setI, xtag_setI, xown_setI, xlen_setI, xE_setR, xsz_setR, xsl_setR, xtag_setR, xown_setR, xlen_setR, xE_setW, xsz_setW, xsl_setW, xtag_setW, xown_setW, xlen_setW, xi_setR, xi_setW, xr_setI, xr_setW, xww_setI, xww_setR, xi_setI, xr_setR, xww_setW, xE_new, xsz_new, xsl_new, d1, d4, d5, d7, d8, xt0, xp0, hM.P.tag, dtw, d1w, d2w, d4w, d5w, xtw, xpw, fqw, tqw, dt41, d141, d241, d441, d541, xt41, xp41, fq41, tq41, dt68, d168, d268, d468, d568, xt68, xp68, fq68, tq68, dt85, d185, d285, d485, d585, xt85, xp85, fq85, tq85]) ?_
      refine xw_callF (pc := 130) (xr_V (as := [_, _, _]) ok_X2_barsException rfl (by decide) q1346 q1347 q1348 (by first | (rw [hP0.tag]; rfl) | (rw [hP41.tag]; rfl) | (rw [hP68.tag]; rfl) | (rw [hP85.tag]; rfl)) (by first | (rw [hP0.tag]; rfl) | (rw [hP41.tag]; rfl) | (rw [hP68.tag]; rfl) | (rw [hP85.tag]; rfl)) dX1_bars_130 rfl rfl (Nat.le_of_ble_eq_true rfl)) (SP_X2_barsException hP85 hWB hv (inR_lt (wBa_s (of_decide_eq_true hb93)).2 hs (by omega) (by omega))) ?_
      intro g130 hc130 hm130
      refine xw_goto (pc := 133) 137 dX1_bars_133 rfl ?_
      refine xw_aret (pc := 137) (.object "PolicyNotation$Whys") dX1_bars_137 rfl ?_
      first
      | (refine ⟨rfl, ?_, ((((Fw.tr F41).tr F68).tr F85).sub (fun _ h => h) (by omega))⟩
         unfold wBb
         dsimp only
         rw [if_pos hv, if_neg (of_decide_eq_false hb93)]
         exact hWB)
      | (refine ⟨rfl, ?_, (((((Fw.tr F41).tr F68).tr F85).tr hc130.2).sub (fun _ h => h) (by omega))⟩
         unfold wBb
         dsimp only
         rw [if_pos hv, if_pos (of_decide_eq_true hb93)]
         exact hc130.1)

theorem SP_X1_bars_C {d : Nat} {g : xG} {x p lk fa ka la n rr ww : Nat} {Z : xAd} {S : xMS} (hM : xMn g x p lk fa ka la Z S n rr ww) {D tl arr s k f l v : Nat} {eff : Option Nat} {ts : List Nat} (hD : xDr g D eff (nI v) (nI s) (nI k) (nI f) (nI l) tl arr ts) (hs : s < 1000) (hf : f < 1000) (hl : l < 1000) (hv : ¬ v < rr) (hv2 : v < 1000) : XM M_X1_bars (d + 80) [.ref x, .ref D] g (xVal (.ref (xsz g)) (fun g' => xWy g' (xsz g) (wBb (S 1) n rr (some v) s f l) ∧ xFr (oEq 5) 60 g g')) := by
  obtain ⟨d1, d2, d3, d4, d5, d6, d7, d8, d9, d10⟩ := hD
  have hlc := hM.P.lc
  have hlr := hM.P.lr
  have n10 := hM.P.wf.n10
  have n0 := hM.P.wf.n0
  have r16 := hM.P.wf.r16
  have hP0 := hM.P
  have dt0 : xtag g D = 16 := d1
  have do0 : xown g D = 14 := d2
  have dl0 : D < xsz g := xlt (by rw [d1]; decide)
  have di0 : ∀ j, xi g D j = xi g D j := fun _ => rfl
  have xt0 : xtag g x = 1 := hM.tx
  have xo0 : xown g x = 1 := hM.ox
  have xl0 : x < xsz g := xlt (by rw [hM.tx]; decide)
  have xp0 : xr g x 0 = some p := hM.xp
  have Fw : xFr (oEq 5) 2 g (xNew g (xBlank 8 5 1) 1) := (xFr.rf (O := oEq 5) (n := 0)).nw.sub (fun _ h => h) (by omega)
  have hWw : xWy (xNew g (xBlank 8 5 1) 1) (xsz g) (0, nI 0) := ⟨xtag_newS rfl, xown_newS rfl, by decide, Or.inl ⟨rfl, xr_newS rfl⟩⟩
  generalize hgw : (xNew g (xBlank 8 5 1) 1) = gw at Fw hWw
  have hPw := hP0.fr Fw (fun o h1 h2 => by have := hM.P.p0; unfold oP at h1; unfold oEq at h2; omega) (by unfold oEq; omega)
  have dtw : xtag gw D = 16 := (Fw.tag dl0).trans dt0
  have dow : xown gw D = 14 := (Fw.own dl0).trans do0
  have dlw := Fw.lt dl0
  have diw : ∀ j, xi gw D j = xi g D j := fun j => (Fw.i' dl0 (by rw [do0]; unfold oEq; omega)).trans (di0 j)
  have d1w : xi gw D 1 = nI v := (diw 1).trans d4
  have d2w : xi gw D 2 = nI s := (diw 2).trans d5
  have d4w : xi gw D 4 = nI f := (diw 4).trans d7
  have d5w : xi gw D 5 = nI l := (diw 5).trans d8
  have xtw : xtag gw x = 1 := (Fw.tag xl0).trans xt0
  have xow : xown gw x = 1 := (Fw.own xl0).trans xo0
  have xlw := Fw.lt xl0
  have xpw : xr gw x 0 = some p := (Fw.r' xl0 (by rw [xo0]; unfold oEq; omega)).trans xp0
  have fqw : xr gw p 1 = some (aL Z 2) := hPw.f1
  have tqw : xtag gw p = 2 := hPw.tag
  refine xm_of (by decide +kernel) (Nat.le_of_ble_eq_true rfl) ?_
  show XW _ _ 0 [(0, _), (1, _)] [] _ _
  refine xw_aload_n (pc := 0) dX1_bars_0 1 rfl ?_
  refine xw_getNat (k := v) (pc := 1) fd_X1_479 dX1_bars_1 (by first | assumption | (simp [-List.getD_eq_getElem?_getD, xE_setI, xsz_setI, xsl_setI, xtag_setI, xown_setI, xlen_setI, xE_setR, xsz_setR, xsl_setR, xtag_setR, xown_setR, xlen_setR, xE_setW, xsz_setW, xsl_setW, xtag_setW, xown_setW, xlen_setW, xi_setR, xi_setW, xr_setI, xr_setW, xww_setI, xww_setR, xi_setI, xr_setR, xww_setW, xE_new, xsz_new, xsl_new, d1, d4, d5, d7, d8, xt0, xp0, hM.P.tag, dtw, d1w, d2w, d4w, d5w, xtw, xpw, fqw, tqw, xsub]; done) | (simp [-List.getD_eq_getElem?_getD, xE_setI, xsz_setI, xsl_setI, xtag_setI, xown_setI, xlen_setI, xE_setR, xsz_setR, xsl_setR, xtag_setR, xown_setR, xlen_setR, xE_setW, xsz_setW, xsl_setW, xtag_setW, xown_setW, xlen_setW, xi_setR, xi_setW, xr_setI, xr_setW, xww_setI, xww_setR, xi_setI, xr_setR, xww_setW, xE_new, xsz_new, xsl_new, d1, d4, d5, d7, d8, xt0, xp0, hM.P.tag, dtw, d1w, d2w, d4w, d5w, xtw, xpw, fqw, tqw] <;> rfl)) (by simp [-List.getD_eq_getElem?_getD, xE_setI, xsz_setI, xsl_setI, xtag_setI, xown_setI, xlen_setI, xE_setR, xsz_setR, xsl_setR, xtag_setR, xown_setR, xlen_setR, xE_setW, xsz_setW, xsl_setW, xtag_setW, xown_setW, xlen_setW, xi_setR, xi_setW, xr_setI, xr_setW, xww_setI, xww_setR, xi_setI, xr_setR, xww_setW, xE_new, xsz_new, xsl_new, d1, d4, d5, d7, d8, xt0, xp0, hM.P.tag, dtw, d1w, d2w, d4w, d5w, xtw, xpw, fqw, tqw]) ?_
  refine xw_iconst (v := -1) (pc := 4) dX1_bars_4 (by decide +kernel) ?_
  refine xw_icmp_eq (pc := 5) 26 dX1_bars_5 rfl (fun hb5 => ?_) (fun hb5 => ?_)
  · exfalso
    exact m1_ne (by omega) hb5.symm
  refine xw_aload_n (pc := 8) dX1_bars_8 0 rfl ?_
  refine xw_getS (b := p) (pc := 9) fd_X1_10 dX1_bars_9 (by first | assumption | (simp [-List.getD_eq_getElem?_getD, xE_setI, xsz_setI, xsl_setI, xtag_setI, xown_setI, xlen_setI, xE_setR, xsz_setR, xsl_setR, xtag_setR, xown_setR, xlen_setR, xE_setW, xsz_setW, xsl_setW, xtag_setW, xown_setW, xlen_setW, xi_setR, xi_setW, xr_setI, xr_setW, xww_setI, xww_setR, xi_setI, xr_setR, xww_setW, xE_new, xsz_new, xsl_new, d1, d4, d5, d7, d8, xt0, xp0, hM.P.tag, dtw, d1w, d2w, d4w, d5w, xtw, xpw, fqw, tqw, xsub]; done) | (simp [-List.getD_eq_getElem?_getD, xE_setI, xsz_setI, xsl_setI, xtag_setI, xown_setI, xlen_setI, xE_setR, xsz_setR, xsl_setR, xtag_setR, xown_setR, xlen_setR, xE_setW, xsz_setW, xsl_setW, xtag_setW, xown_setW, xlen_setW, xi_setR, xi_setW, xr_setI, xr_setW, xww_setI, xww_setR, xi_setI, xr_setR, xww_setW, xE_new, xsz_new, xsl_new, d1, d4, d5, d7, d8, xt0, xp0, hM.P.tag, dtw, d1w, d2w, d4w, d5w, xtw, xpw, fqw, tqw] <;> rfl)) (by simp [-List.getD_eq_getElem?_getD, xE_setI, xsz_setI, xsl_setI, xtag_setI, xown_setI, xlen_setI, xE_setR, xsz_setR, xsl_setR, xtag_setR, xown_setR, xlen_setR, xE_setW, xsz_setW, xsl_setW, xtag_setW, xown_setW, xlen_setW, xi_setR, xi_setW, xr_setI, xr_setW, xww_setI, xww_setR, xi_setI, xr_setR, xww_setW, xE_new, xsz_new, xsl_new, d1, d4, d5, d7, d8, xt0, xp0, hM.P.tag, dtw, d1w, d2w, d4w, d5w, xtw, xpw, fqw, tqw]) ?_
  refine xw_aload_n (pc := 12) dX1_bars_12 1 rfl ?_
  refine xw_getNat (k := v) (pc := 13) fd_X1_479 dX1_bars_13 (by first | assumption | (simp [-List.getD_eq_getElem?_getD, xE_setI, xsz_setI, xsl_setI, xtag_setI, xown_setI, xlen_setI, xE_setR, xsz_setR, xsl_setR, xtag_setR, xown_setR, xlen_setR, xE_setW, xsz_setW, xsl_setW, xtag_setW, xown_setW, xlen_setW, xi_setR, xi_setW, xr_setI, xr_setW, xww_setI, xww_setR, xi_setI, xr_setR, xww_setW, xE_new, xsz_new, xsl_new, d1, d4, d5, d7, d8, xt0, xp0, hM.P.tag, dtw, d1w, d2w, d4w, d5w, xtw, xpw, fqw, tqw, xsub]; done) | (simp [-List.getD_eq_getElem?_getD, xE_setI, xsz_setI, xsl_setI, xtag_setI, xown_setI, xlen_setI, xE_setR, xsz_setR, xsl_setR, xtag_setR, xown_setR, xlen_setR, xE_setW, xsz_setW, xsl_setW, xtag_setW, xown_setW, xlen_setW, xi_setR, xi_setW, xr_setI, xr_setW, xww_setI, xww_setR, xi_setI, xr_setR, xww_setW, xE_new, xsz_new, xsl_new, d1, d4, d5, d7, d8, xt0, xp0, hM.P.tag, dtw, d1w, d2w, d4w, d5w, xtw, xpw, fqw, tqw] <;> rfl)) (by simp [-List.getD_eq_getElem?_getD, xE_setI, xsz_setI, xsl_setI, xtag_setI, xown_setI, xlen_setI, xE_setR, xsz_setR, xsl_setR, xtag_setR, xown_setR, xlen_setR, xE_setW, xsz_setW, xsl_setW, xtag_setW, xown_setW, xlen_setW, xi_setR, xi_setW, xr_setI, xr_setW, xww_setI, xww_setR, xi_setI, xr_setR, xww_setW, xE_new, xsz_new, xsl_new, d1, d4, d5, d7, d8, xt0, xp0, hM.P.tag, dtw, d1w, d2w, d4w, d5w, xtw, xpw, fqw, tqw]) ?_
  refine xw_callV (pc := 16) (xr_V (as := [_]) ok_X2_isRule rfl (by decide) q1688 q1343 q1344 (by first | (rw [hP0.tag]; rfl) | (rw [hP41.tag]; rfl) | (rw [hP68.tag]; rfl) | (rw [hP85.tag]; rfl)) (by first | (rw [hP0.tag]; rfl) | (rw [hP41.tag]; rfl) | (rw [hP68.tag]; rfl) | (rw [hP85.tag]; rfl)) dX1_bars_16 rfl rfl (Nat.le_of_ble_eq_true rfl)) ((show XM M_X2_isRule (d + 79) [.ref p, .int (nI v)] g (xOne (some (.int (bI false))) g) from (show inR (nI v) (nI 0) (nI (aR Z).length - nI 1) = false by rw [hlr]; exact inR_ge hv hv2 (by omega)) ▸ SP_X2_isRule hM.P.pl)) ?_
  refine xw_if_ne (pc := 19) 26 dX1_bars_19 rfl (fun hb => absurd hb (by decide)) (fun _ => ?_)
  refine xw_iconst (v := nI 1) (pc := 22) dX1_bars_22 rfl ?_
  refine xw_goto (pc := 23) 27 dX1_bars_23 rfl ?_
  refine xw_istore_n (l' := [(2, _), (0, _), (1, _)]) (pc := 27) dX1_bars_27 rfl (by decide) rfl ?_
  refine xw_new (t := 8) (pc := 28) 5 dX1_bars_28 rfl (by decide) (by first | decide | assumption | omega) q1268 q1269 q127 ?_
  refine xw_at (a := (xsz g)) (by rfl) ?_
  rw [hgw]
  refine xw_dup (pc := 31) dX1_bars_31 rfl ?_
  refine xw_callU (pc := 32) (xr_IN (as := []) ok_X10_init rfl (by decide) q1270 q1271 rfl rfl dX1_bars_32 rfl rfl (Nat.le_of_ble_eq_true rfl)) (SP_X10_init) ?_
  refine xw_iload_n (pc := 35) dX1_bars_35 0 rfl ?_
  refine xw_iconst (v := nI 1) (pc := 36) dX1_bars_36 rfl ?_
  refine xw_aload_n (pc := 37) dX1_bars_37 2 rfl ?_
  refine xw_getNat (k := v) (pc := 38) fd_X1_479 dX1_bars_38 (by first | assumption | (simp [-List.getD_eq_getElem?_getD, xE_setI, xsz_setI, xsl_setI, xtag_setI, xown_setI, xlen_setI, xE_setR, xsz_setR, xsl_setR, xtag_setR, xown_setR, xlen_setR, xE_setW, xsz_setW, xsl_setW, xtag_setW, xown_setW, xlen_setW, xi_setR, xi_setW, xr_setI, xr_setW, xww_setI, xww_setR, xi_setI, xr_setR, xww_setW, xE_new, xsz_new, xsl_new, d1, d4, d5, d7, d8, xt0, xp0, hM.P.tag, dtw, d1w, d2w, d4w, d5w, xtw, xpw, fqw, tqw, xsub]; done) | (simp [-List.getD_eq_getElem?_getD, xE_setI, xsz_setI, xsl_setI, xtag_setI, xown_setI, xlen_setI, xE_setR, xsz_setR, xsl_setR, xtag_setR, xown_setR, xlen_setR, xE_setW, xsz_setW, xsl_setW, xtag_setW, xown_setW, xlen_setW, xi_setR, xi_setW, xr_setI, xr_setW, xww_setI, xww_setR, xi_setI, xr_setR, xww_setW, xE_new, xsz_new, xsl_new, d1, d4, d5, d7, d8, xt0, xp0, hM.P.tag, dtw, d1w, d2w, d4w, d5w, xtw, xpw, fqw, tqw] <;> rfl)) (by simp [-List.getD_eq_getElem?_getD, xE_setI, xsz_setI, xsl_setI, xtag_setI, xown_setI, xlen_setI, xE_setR, xsz_setR, xsl_setR, xtag_setR, xown_setR, xlen_setR, xE_setW, xsz_setW, xsl_setW, xtag_setW, xown_setW, xlen_setW, xi_setR, xi_setW, xr_setI, xr_setW, xww_setI, xww_setR, xi_setI, xr_setR, xww_setW, xE_new, xsz_new, xsl_new, d1, d4, d5, d7, d8, xt0, xp0, hM.P.tag, dtw, d1w, d2w, d4w, d5w, xtw, xpw, fqw, tqw]) ?_
  refine xw_callF (pc := 41) (xr_V (as := [_, _, _]) ok_X10_asks rfl (by decide) q1447 q1284 q1285 (by first | (rw [hWw.1]; rfl) | (rw [hW41.1]; rfl) | (rw [hW68.1]; rfl) | (rw [hW85.1]; rfl)) (by first | (rw [hWw.1]; rfl) | (rw [hW41.1]; rfl) | (rw [hW68.1]; rfl) | (rw [hW85.1]; rfl)) dX1_bars_41 rfl rfl (Nat.le_of_ble_eq_true rfl)) (SP_X10_asks (v := (0, nI 0)) (b := true) hWw (by rfl) (by decide)) ?_
  intro g41 hc41 hm41
  obtain ⟨hW41, F41⟩ := hc41
  have hP41 := hPw.fr F41 (fun o h1 h2 => by have := hM.P.p0; unfold oP at h1; unfold oEq at h2; omega) (by unfold oEq; omega)
  have dt41 : xtag g41 D = 16 := (F41.tag dlw).trans dtw
  have do41 : xown g41 D = 14 := (F41.own dlw).trans dow
  have dl41 := F41.lt dlw
  have di41 : ∀ j, xi g41 D j = xi g D j := fun j => (F41.i' dlw (by rw [dow]; unfold oEq; omega)).trans (diw j)
  have d141 : xi g41 D 1 = nI v := (di41 1).trans d4
  have d241 : xi g41 D 2 = nI s := (di41 2).trans d5
  have d441 : xi g41 D 4 = nI f := (di41 4).trans d7
  have d541 : xi g41 D 5 = nI l := (di41 5).trans d8
  have xt41 : xtag g41 x = 1 := (F41.tag xlw).trans xtw
  have xo41 : xown g41 x = 1 := (F41.own xlw).trans xow
  have xl41 := F41.lt xlw
  have xp41 : xr g41 x 0 = some p := (F41.r' xlw (by rw [xow]; unfold oEq; omega)).trans xpw
  have fq41 : xr g41 p 1 = some (aL Z 2) := hP41.f1
  have tq41 : xtag g41 p = 2 := hP41.tag
  refine xw_aload_n (pc := 44) dX1_bars_44 1 rfl ?_
  refine xw_getS (b := p) (pc := 45) fd_X1_10 dX1_bars_45 (by first | assumption | (simp [-List.getD_eq_getElem?_getD, xE_setI, xsz_setI, xsl_setI, xtag_setI, xown_setI, xlen_setI, xE_setR, xsz_setR, xsl_setR, xtag_setR, xown_setR, xlen_setR, xE_setW, xsz_setW, xsl_setW, xtag_setW, xown_setW, xlen_setW, xi_setR, xi_setW, xr_setI, xr_setW, xww_setI, xww_setR, xi_setI, xr_setR, xww_setW, xE_new, xsz_new, xsl_new, d1, d4, d5, d7, d8, xt0, xp0, hM.P.tag, dtw, d1w, d2w, d4w, d5w, xtw, xpw, fqw, tqw, dt41, d141, d241, d441, d541, xt41, xp41, fq41, tq41, xsub]; done) | (simp [-List.getD_eq_getElem?_getD, xE_setI, xsz_setI, xsl_setI, xtag_setI, xown_setI, xlen_setI, xE_setR, xsz_setR, xsl_setR, xtag_setR, xown_setR, xlen_setR, xE_setW, xsz_setW, xsl_setW, xtag_setW, xown_setW, xlen_setW, xi_setR, xi_setW, xr_setI, xr_setW, xww_setI, xww_setR, xi_setI, xr_setR, xww_setW, xE_new, xsz_new, xsl_new, d1, d4, d5, d7, d8, xt0, xp0, hM.P.tag, dtw, d1w, d2w, d4w, d5w, xtw, xpw, fqw, tqw, dt41, d141, d241, d441, d541, xt41, xp41, fq41, tq41] <;> rfl)) (by simp [-List.getD_eq_getElem?_getD, xE_setI, xsz_setI, xsl_setI, xtag_setI, xown_setI, xlen_setI, xE_setR, xsz_setR, xsl_setR, xtag_setR, xown_setR, xlen_setR, xE_setW, xsz_setW, xsl_setW, xtag_setW, xown_setW, xlen_setW, xi_setR, xi_setW, xr_setI, xr_setW, xww_setI, xww_setR, xi_setI, xr_setR, xww_setW, xE_new, xsz_new, xsl_new, d1, d4, d5, d7, d8, xt0, xp0, hM.P.tag, dtw, d1w, d2w, d4w, d5w, xtw, xpw, fqw, tqw, dt41, d141, d241, d441, d541, xt41, xp41, fq41, tq41]) ?_
  refine xw_aload_n (pc := 48) dX1_bars_48 2 rfl ?_
  refine xw_getNat (k := s) (pc := 49) fd_X1_483 dX1_bars_49 (by first | assumption | (simp [-List.getD_eq_getElem?_getD, xE_setI, xsz_setI, xsl_setI, xtag_setI, xown_setI, xlen_setI, xE_setR, xsz_setR, xsl_setR, xtag_setR, xown_setR, xlen_setR, xE_setW, xsz_setW, xsl_setW, xtag_setW, xown_setW, xlen_setW, xi_setR, xi_setW, xr_setI, xr_setW, xww_setI, xww_setR, xi_setI, xr_setR, xww_setW, xE_new, xsz_new, xsl_new, d1, d4, d5, d7, d8, xt0, xp0, hM.P.tag, dtw, d1w, d2w, d4w, d5w, xtw, xpw, fqw, tqw, dt41, d141, d241, d441, d541, xt41, xp41, fq41, tq41, xsub]; done) | (simp [-List.getD_eq_getElem?_getD, xE_setI, xsz_setI, xsl_setI, xtag_setI, xown_setI, xlen_setI, xE_setR, xsz_setR, xsl_setR, xtag_setR, xown_setR, xlen_setR, xE_setW, xsz_setW, xsl_setW, xtag_setW, xown_setW, xlen_setW, xi_setR, xi_setW, xr_setI, xr_setW, xww_setI, xww_setR, xi_setI, xr_setR, xww_setW, xE_new, xsz_new, xsl_new, d1, d4, d5, d7, d8, xt0, xp0, hM.P.tag, dtw, d1w, d2w, d4w, d5w, xtw, xpw, fqw, tqw, dt41, d141, d241, d441, d541, xt41, xp41, fq41, tq41] <;> rfl)) (by simp [-List.getD_eq_getElem?_getD, xE_setI, xsz_setI, xsl_setI, xtag_setI, xown_setI, xlen_setI, xE_setR, xsz_setR, xsl_setR, xtag_setR, xown_setR, xlen_setR, xE_setW, xsz_setW, xsl_setW, xtag_setW, xown_setW, xlen_setW, xi_setR, xi_setW, xr_setI, xr_setW, xww_setI, xww_setR, xi_setI, xr_setR, xww_setW, xE_new, xsz_new, xsl_new, d1, d4, d5, d7, d8, xt0, xp0, hM.P.tag, dtw, d1w, d2w, d4w, d5w, xtw, xpw, fqw, tqw, dt41, d141, d241, d441, d541, xt41, xp41, fq41, tq41]) ?_
  refine xw_callV (pc := 52) (xr_V (as := [_]) ok_X2_isScope rfl (by decide) q1251 q1061 q1062 (by first | (rw [hP0.tag]; rfl) | (rw [hP41.tag]; rfl) | (rw [hP68.tag]; rfl) | (rw [hP85.tag]; rfl)) (by first | (rw [hP0.tag]; rfl) | (rw [hP41.tag]; rfl) | (rw [hP68.tag]; rfl) | (rw [hP85.tag]; rfl)) dX1_bars_52 rfl rfl (Nat.le_of_ble_eq_true rfl)) (SP_X2_isScope hP41.pl) ?_
  refine xw_if_ne (pc := 55) 62 dX1_bars_55 rfl (fun hb55 => ?_) (fun hb55 => ?_)
  · replace hb55 := bI_n0.mp hb55
    refine xw_iconst (v := nI 0) (pc := 62) dX1_bars_62 rfl ?_
    refine xw_iconst (v := nI 1) (pc := 63) dX1_bars_63 rfl ?_
    refine xw_aload_n (pc := 64) dX1_bars_64 2 rfl ?_
    refine xw_getNat (k := s) (pc := 65) fd_X1_483 dX1_bars_65 (by first | assumption | (simp [-List.getD_eq_getElem?_getD, xE_setI, xsz_setI, xsl_setI, xtag_setI, xown_setI, xlen_setI, xE_setR, xsz_setR, xsl_setR, xtag_setR, xown_setR, xlen_setR, xE_setW, xsz_setW, xsl_setW, xtag_setW, xown_setW, xlen_setW, xi_setR, xi_setW, xr_setI, xr_setW, xww_setI, xww_setR, xi_setI, xr_setR, xww_setW, xE_new, xsz_new, xsl_new, d1, d4, d5, d7, d8, xt0, xp0, hM.P.tag, dtw, d1w, d2w, d4w, d5w, xtw, xpw, fqw, tqw, dt41, d141, d241, d441, d541, xt41, xp41, fq41, tq41, xsub]; done) | (simp [-List.getD_eq_getElem?_getD, xE_setI, xsz_setI, xsl_setI, xtag_setI, xown_setI, xlen_setI, xE_setR, xsz_setR, xsl_setR, xtag_setR, xown_setR, xlen_setR, xE_setW, xsz_setW, xsl_setW, xtag_setW, xown_setW, xlen_setW, xi_setR, xi_setW, xr_setI, xr_setW, xww_setI, xww_setR, xi_setI, xr_setR, xww_setW, xE_new, xsz_new, xsl_new, d1, d4, d5, d7, d8, xt0, xp0, hM.P.tag, dtw, d1w, d2w, d4w, d5w, xtw, xpw, fqw, tqw, dt41, d141, d241, d441, d541, xt41, xp41, fq41, tq41] <;> rfl)) (by simp [-List.getD_eq_getElem?_getD, xE_setI, xsz_setI, xsl_setI, xtag_setI, xown_setI, xlen_setI, xE_setR, xsz_setR, xsl_setR, xtag_setR, xown_setR, xlen_setR, xE_setW, xsz_setW, xsl_setW, xtag_setW, xown_setW, xlen_setW, xi_setR, xi_setW, xr_setI, xr_setW, xww_setI, xww_setR, xi_setI, xr_setR, xww_setW, xE_new, xsz_new, xsl_new, d1, d4, d5, d7, d8, xt0, xp0, hM.P.tag, dtw, d1w, d2w, d4w, d5w, xtw, xpw, fqw, tqw, dt41, d141, d241, d441, d541, xt41, xp41, fq41, tq41]) ?_
    refine xw_callF (pc := 68) (xr_V (as := [_, _, _]) ok_X10_asks rfl (by decide) q1447 q1284 q1285 (by first | (rw [hWw.1]; rfl) | (rw [hW41.1]; rfl) | (rw [hW68.1]; rfl) | (rw [hW85.1]; rfl)) (by first | (rw [hWw.1]; rfl) | (rw [hW41.1]; rfl) | (rw [hW68.1]; rfl) | (rw [hW85.1]; rfl)) dX1_bars_68 rfl rfl (Nat.le_of_ble_eq_true rfl)) (SP_X10_asks (b := false) hW41 (by rfl) (by decide)) ?_
    intro g68 hc68 hm68
    obtain ⟨hW68, F68⟩ := hc68
    have hP68 := hP41.fr F68 (fun o h1 h2 => by have := hM.P.p0; unfold oP at h1; unfold oEq at h2; omega) (by unfold oEq; omega)
    have dt68 : xtag g68 D = 16 := (F68.tag dl41).trans dt41
    have do68 : xown g68 D = 14 := (F68.own dl41).trans do41
    have dl68 := F68.lt dl41
    have di68 : ∀ j, xi g68 D j = xi g D j := fun j => (F68.i' dl41 (by rw [do41]; unfold oEq; omega)).trans (di41 j)
    have d168 : xi g68 D 1 = nI v := (di68 1).trans d4
    have d268 : xi g68 D 2 = nI s := (di68 2).trans d5
    have d468 : xi g68 D 4 = nI f := (di68 4).trans d7
    have d568 : xi g68 D 5 = nI l := (di68 5).trans d8
    have xt68 : xtag g68 x = 1 := (F68.tag xl41).trans xt41
    have xo68 : xown g68 x = 1 := (F68.own xl41).trans xo41
    have xl68 := F68.lt xl41
    have xp68 : xr g68 x 0 = some p := (F68.r' xl41 (by rw [xo41]; unfold oEq; omega)).trans xp41
    have fq68 : xr g68 p 1 = some (aL Z 2) := hP68.f1
    have tq68 : xtag g68 p = 2 := hP68.tag
    refine xw_astore_n (l' := [(3, _), (2, _), (0, _), (1, _)]) (pc := 71) dX1_bars_71 rfl (by decide) rfl ?_
    refine xw_aload_n (pc := 72) dX1_bars_72 2 rfl ?_
    refine xw_getS (b := p) (pc := 73) fd_X1_10 dX1_bars_73 (by first | assumption | (simp [-List.getD_eq_getElem?_getD, xE_setI, xsz_setI, xsl_setI, xtag_setI, xown_setI, xlen_setI, xE_setR, xsz_setR, xsl_setR, xtag_setR, xown_setR, xlen_setR, xE_setW, xsz_setW, xsl_setW, xtag_setW, xown_setW, xlen_setW, xi_setR, xi_setW, xr_setI, xr_setW, xww_setI, xww_setR, xi_setI, xr_setR, xww_setW, xE_new, xsz_new, xsl_new, d1, d4, d5, d7, d8, xt0, xp0, hM.P.tag, dtw, d1w, d2w, d4w, d5w, xtw, xpw, fqw, tqw, dt41, d141, d241, d441, d541, xt41, xp41, fq41, tq41, dt68, d168, d268, d468, d568, xt68, xp68, fq68, tq68, xsub]; done) | (simp [-List.getD_eq_getElem?_getD, xE_setI, xsz_setI, xsl_setI, xtag_setI, xown_setI, xlen_setI, xE_setR, xsz_setR, xsl_setR, xtag_setR, xown_setR, xlen_setR, xE_setW, xsz_setW, xsl_setW, xtag_setW, xown_setW, xlen_setW, xi_setR, xi_setW, xr_setI, xr_setW, xww_setI, xww_setR, xi_setI, xr_setR, xww_setW, xE_new, xsz_new, xsl_new, d1, d4, d5, d7, d8, xt0, xp0, hM.P.tag, dtw, d1w, d2w, d4w, d5w, xtw, xpw, fqw, tqw, dt41, d141, d241, d441, d541, xt41, xp41, fq41, tq41, dt68, d168, d268, d468, d568, xt68, xp68, fq68, tq68] <;> rfl)) (by simp [-List.getD_eq_getElem?_getD, xE_setI, xsz_setI, xsl_setI, xtag_setI, xown_setI, xlen_setI, xE_setR, xsz_setR, xsl_setR, xtag_setR, xown_setR, xlen_setR, xE_setW, xsz_setW, xsl_setW, xtag_setW, xown_setW, xlen_setW, xi_setR, xi_setW, xr_setI, xr_setW, xww_setI, xww_setR, xi_setI, xr_setR, xww_setW, xE_new, xsz_new, xsl_new, d1, d4, d5, d7, d8, xt0, xp0, hM.P.tag, dtw, d1w, d2w, d4w, d5w, xtw, xpw, fqw, tqw, dt41, d141, d241, d441, d541, xt41, xp41, fq41, tq41, dt68, d168, d268, d468, d568, xt68, xp68, fq68, tq68]) ?_
    refine xw_aload_n (pc := 76) dX1_bars_76 0 rfl ?_
    refine xw_aload_n (pc := 77) dX1_bars_77 3 rfl ?_
    refine xw_getNat (k := f) (pc := 78) fd_X1_484 dX1_bars_78 (by first | assumption | (simp [-List.getD_eq_getElem?_getD, xE_setI, xsz_setI, xsl_setI, xtag_setI, xown_setI, xlen_setI, xE_setR, xsz_setR, xsl_setR, xtag_setR, xown_setR, xlen_setR, xE_setW, xsz_setW, xsl_setW, xtag_setW, xown_setW, xlen_setW, xi_setR, xi_setW, xr_setI, xr_setW, xww_setI, xww_setR, xi_setI, xr_setR, xww_setW, xE_new, xsz_new, xsl_new, d1, d4, d5, d7, d8, xt0, xp0, hM.P.tag, dtw, d1w, d2w, d4w, d5w, xtw, xpw, fqw, tqw, dt41, d141, d241, d441, d541, xt41, xp41, fq41, tq41, dt68, d168, d268, d468, d568, xt68, xp68, fq68, tq68, xsub]; done) | (simp [-List.getD_eq_getElem?_getD, xE_setI, xsz_setI, xsl_setI, xtag_setI, xown_setI, xlen_setI, xE_setR, xsz_setR, xsl_setR, xtag_setR, xown_setR, xlen_setR, xE_setW, xsz_setW, xsl_setW, xtag_setW, xown_setW, xlen_setW, xi_setR, xi_setW, xr_setI, xr_setW, xww_setI, xww_setR, xi_setI, xr_setR, xww_setW, xE_new, xsz_new, xsl_new, d1, d4, d5, d7, d8, xt0, xp0, hM.P.tag, dtw, d1w, d2w, d4w, d5w, xtw, xpw, fqw, tqw, dt41, d141, d241, d441, d541, xt41, xp41, fq41, tq41, dt68, d168, d268, d468, d568, xt68, xp68, fq68, tq68] <;> rfl)) (by simp [-List.getD_eq_getElem?_getD, xE_setI, xsz_setI, xsl_setI, xtag_setI, xown_setI, xlen_setI, xE_setR, xsz_setR, xsl_setR, xtag_setR, xown_setR, xlen_setR, xE_setW, xsz_setW, xsl_setW, xtag_setW, xown_setW, xlen_setW, xi_setR, xi_setW, xr_setI, xr_setW, xww_setI, xww_setR, xi_setI, xr_setR, xww_setW, xE_new, xsz_new, xsl_new, d1, d4, d5, d7, d8, xt0, xp0, hM.P.tag, dtw, d1w, d2w, d4w, d5w, xtw, xpw, fqw, tqw, dt41, d141, d241, d441, d541, xt41, xp41, fq41, tq41, dt68, d168, d268, d468, d568, xt68, xp68, fq68, tq68]) ?_
    refine xw_aload_n (pc := 81) dX1_bars_81 3 rfl ?_
    refine xw_getNat (k := l) (pc := 82) fd_X1_485 dX1_bars_82 (by first | assumption | (simp [-List.getD_eq_getElem?_getD, xE_setI, xsz_setI, xsl_setI, xtag_setI, xown_setI, xlen_setI, xE_setR, xsz_setR, xsl_setR, xtag_setR, xown_setR, xlen_setR, xE_setW, xsz_setW, xsl_setW, xtag_setW, xown_setW, xlen_setW, xi_setR, xi_setW, xr_setI, xr_setW, xww_setI, xww_setR, xi_setI, xr_setR, xww_setW, xE_new, xsz_new, xsl_new, d1, d4, d5, d7, d8, xt0, xp0, hM.P.tag, dtw, d1w, d2w, d4w, d5w, xtw, xpw, fqw, tqw, dt41, d141, d241, d441, d541, xt41, xp41, fq41, tq41, dt68, d168, d268, d468, d568, xt68, xp68, fq68, tq68, xsub]; done) | (simp [-List.getD_eq_getElem?_getD, xE_setI, xsz_setI, xsl_setI, xtag_setI, xown_setI, xlen_setI, xE_setR, xsz_setR, xsl_setR, xtag_setR, xown_setR, xlen_setR, xE_setW, xsz_setW, xsl_setW, xtag_setW, xown_setW, xlen_setW, xi_setR, xi_setW, xr_setI, xr_setW, xww_setI, xww_setR, xi_setI, xr_setR, xww_setW, xE_new, xsz_new, xsl_new, d1, d4, d5, d7, d8, xt0, xp0, hM.P.tag, dtw, d1w, d2w, d4w, d5w, xtw, xpw, fqw, tqw, dt41, d141, d241, d441, d541, xt41, xp41, fq41, tq41, dt68, d168, d268, d468, d568, xt68, xp68, fq68, tq68] <;> rfl)) (by simp [-List.getD_eq_getElem?_getD, xE_setI, xsz_setI, xsl_setI, xtag_setI, xown_setI, xlen_setI, xE_setR, xsz_setR, xsl_setR, xtag_setR, xown_setR, xlen_setR, xE_setW, xsz_setW, xsl_setW, xtag_setW, xown_setW, xlen_setW, xi_setR, xi_setW, xr_setI, xr_setW, xww_setI, xww_setR, xi_setI, xr_setR, xww_setW, xE_new, xsz_new, xsl_new, d1, d4, d5, d7, d8, xt0, xp0, hM.P.tag, dtw, d1w, d2w, d4w, d5w, xtw, xpw, fqw, tqw, dt41, d141, d241, d441, d541, xt41, xp41, fq41, tq41, dt68, d168, d268, d468, d568, xt68, xp68, fq68, tq68]) ?_
    refine xw_callF (pc := 85) (xr_V (as := [_, _, _]) ok_X2_barsRule rfl (by decide) q1279 q1280 q1281 (by first | (rw [hP0.tag]; rfl) | (rw [hP41.tag]; rfl) | (rw [hP68.tag]; rfl) | (rw [hP85.tag]; rfl)) (by first | (rw [hP0.tag]; rfl) | (rw [hP41.tag]; rfl) | (rw [hP68.tag]; rfl) | (rw [hP85.tag]; rfl)) dX1_bars_85 rfl rfl (Nat.le_of_ble_eq_true rfl)) (SP_X2_barsRule hP68.pl hW68) ?_
    intro g85 hc85 hm85
    obtain ⟨hW85, F85⟩ := hc85
    have hP85 := hP68.fr F85 (fun o h1 h2 => by have := hM.P.p0; unfold oP at h1; unfold oEq at h2; omega) (by unfold oEq; omega)
    have dt85 : xtag g85 D = 16 := (F85.tag dl68).trans dt68
    have do85 : xown g85 D = 14 := (F85.own dl68).trans do68
    have dl85 := F85.lt dl68
    have di85 : ∀ j, xi g85 D j = xi g D j := fun j => (F85.i' dl68 (by rw [do68]; unfold oEq; omega)).trans (di68 j)
    have d185 : xi g85 D 1 = nI v := (di85 1).trans d4
    have d285 : xi g85 D 2 = nI s := (di85 2).trans d5
    have d485 : xi g85 D 4 = nI f := (di85 4).trans d7
    have d585 : xi g85 D 5 = nI l := (di85 5).trans d8
    have xt85 : xtag g85 x = 1 := (F85.tag xl68).trans xt68
    have xo85 : xown g85 x = 1 := (F85.own xl68).trans xo68
    have xl85 := F85.lt xl68
    have xp85 : xr g85 x 0 = some p := (F85.r' xl68 (by rw [xo68]; unfold oEq; omega)).trans xp68
    have fq85 : xr g85 p 1 = some (aL Z 2) := hP85.f1
    have tq85 : xtag g85 p = 2 := hP85.tag
    have hWB : xWy g85 (xsz g) (wBa n rr true (some v) s f l) := by
      unfold wBa
      rw [hlc] at hb55
      rw [hb55, ← hlr]
      exact hW85
    refine xw_pop (pc := 88) dX1_bars_88 rfl ?_
    refine xw_aload_n (pc := 89) dX1_bars_89 0 rfl ?_
    refine xw_callV (pc := 90) (xr_V (as := []) ok_X10_isNone rfl (by decide) q1306 q1307 q1308 (by first | (rw [hWw.1]; rfl) | (rw [hW41.1]; rfl) | (rw [hW68.1]; rfl) | (rw [hW85.1]; rfl)) (by first | (rw [hWw.1]; rfl) | (rw [hW41.1]; rfl) | (rw [hW68.1]; rfl) | (rw [hW85.1]; rfl)) dX1_bars_90 rfl rfl (Nat.le_of_ble_eq_true rfl)) (SP_X10_isNone hWB) ?_
    refine xw_if_eq (pc := 93) 136 dX1_bars_93 rfl (fun hb93 => ?_) (fun hb93 => ?_)
    rotate_left
    · exfalso
      replace hb93 := bI_n0.mp hb93
      exact absurd (wBa_s (of_decide_eq_true hb93)).1 (by decide)
    replace hb93 := bI_0.mp hb93
    refine xw_aload_n (pc := 136) dX1_bars_136 0 rfl ?_
    refine xw_aret (pc := 137) (.object "PolicyNotation$Whys") dX1_bars_137 rfl ?_
    refine ⟨rfl, ?_, ((((Fw.tr F41).tr F68).tr F85).sub (fun _ h => h) (by omega))⟩
    unfold wBb
    dsimp only
    rw [if_neg hv]
    exact hWB
  · replace hb55 := bI_0.mp hb55
    refine xw_iconst (v := nI 1) (pc := 58) dX1_bars_58 rfl ?_
    refine xw_goto (pc := 59) 63 dX1_bars_59 rfl ?_
    refine xw_iconst (v := nI 1) (pc := 63) dX1_bars_63 rfl ?_
    refine xw_aload_n (pc := 64) dX1_bars_64 2 rfl ?_
    refine xw_getNat (k := s) (pc := 65) fd_X1_483 dX1_bars_65 (by first | assumption | (simp [-List.getD_eq_getElem?_getD, xE_setI, xsz_setI, xsl_setI, xtag_setI, xown_setI, xlen_setI, xE_setR, xsz_setR, xsl_setR, xtag_setR, xown_setR, xlen_setR, xE_setW, xsz_setW, xsl_setW, xtag_setW, xown_setW, xlen_setW, xi_setR, xi_setW, xr_setI, xr_setW, xww_setI, xww_setR, xi_setI, xr_setR, xww_setW, xE_new, xsz_new, xsl_new, d1, d4, d5, d7, d8, xt0, xp0, hM.P.tag, dtw, d1w, d2w, d4w, d5w, xtw, xpw, fqw, tqw, dt41, d141, d241, d441, d541, xt41, xp41, fq41, tq41, xsub]; done) | (simp [-List.getD_eq_getElem?_getD, xE_setI, xsz_setI, xsl_setI, xtag_setI, xown_setI, xlen_setI, xE_setR, xsz_setR, xsl_setR, xtag_setR, xown_setR, xlen_setR, xE_setW, xsz_setW, xsl_setW, xtag_setW, xown_setW, xlen_setW, xi_setR, xi_setW, xr_setI, xr_setW, xww_setI, xww_setR, xi_setI, xr_setR, xww_setW, xE_new, xsz_new, xsl_new, d1, d4, d5, d7, d8, xt0, xp0, hM.P.tag, dtw, d1w, d2w, d4w, d5w, xtw, xpw, fqw, tqw, dt41, d141, d241, d441, d541, xt41, xp41, fq41, tq41] <;> rfl)) (by simp [-List.getD_eq_getElem?_getD, xE_setI, xsz_setI, xsl_setI, xtag_setI, xown_setI, xlen_setI, xE_setR, xsz_setR, xsl_setR, xtag_setR, xown_setR, xlen_setR, xE_setW, xsz_setW, xsl_setW, xtag_setW, xown_setW, xlen_setW, xi_setR, xi_setW, xr_setI, xr_setW, xww_setI, xww_setR, xi_setI, xr_setR, xww_setW, xE_new, xsz_new, xsl_new, d1, d4, d5, d7, d8, xt0, xp0, hM.P.tag, dtw, d1w, d2w, d4w, d5w, xtw, xpw, fqw, tqw, dt41, d141, d241, d441, d541, xt41, xp41, fq41, tq41]) ?_
    refine xw_callF (pc := 68) (xr_V (as := [_, _, _]) ok_X10_asks rfl (by decide) q1447 q1284 q1285 (by first | (rw [hWw.1]; rfl) | (rw [hW41.1]; rfl) | (rw [hW68.1]; rfl) | (rw [hW85.1]; rfl)) (by first | (rw [hWw.1]; rfl) | (rw [hW41.1]; rfl) | (rw [hW68.1]; rfl) | (rw [hW85.1]; rfl)) dX1_bars_68 rfl rfl (Nat.le_of_ble_eq_true rfl)) (SP_X10_asks (b := true) hW41 (by rfl) (by decide)) ?_
    intro g68 hc68 hm68
    obtain ⟨hW68, F68⟩ := hc68
    have hP68 := hP41.fr F68 (fun o h1 h2 => by have := hM.P.p0; unfold oP at h1; unfold oEq at h2; omega) (by unfold oEq; omega)
    have dt68 : xtag g68 D = 16 := (F68.tag dl41).trans dt41
    have do68 : xown g68 D = 14 := (F68.own dl41).trans do41
    have dl68 := F68.lt dl41
    have di68 : ∀ j, xi g68 D j = xi g D j := fun j => (F68.i' dl41 (by rw [do41]; unfold oEq; omega)).trans (di41 j)
    have d168 : xi g68 D 1 = nI v := (di68 1).trans d4
    have d268 : xi g68 D 2 = nI s := (di68 2).trans d5
    have d468 : xi g68 D 4 = nI f := (di68 4).trans d7
    have d568 : xi g68 D 5 = nI l := (di68 5).trans d8
    have xt68 : xtag g68 x = 1 := (F68.tag xl41).trans xt41
    have xo68 : xown g68 x = 1 := (F68.own xl41).trans xo41
    have xl68 := F68.lt xl41
    have xp68 : xr g68 x 0 = some p := (F68.r' xl41 (by rw [xo41]; unfold oEq; omega)).trans xp41
    have fq68 : xr g68 p 1 = some (aL Z 2) := hP68.f1
    have tq68 : xtag g68 p = 2 := hP68.tag
    refine xw_astore_n (l' := [(3, _), (2, _), (0, _), (1, _)]) (pc := 71) dX1_bars_71 rfl (by decide) rfl ?_
    refine xw_aload_n (pc := 72) dX1_bars_72 2 rfl ?_
    refine xw_getS (b := p) (pc := 73) fd_X1_10 dX1_bars_73 (by first | assumption | (simp [-List.getD_eq_getElem?_getD, xE_setI, xsz_setI, xsl_setI, xtag_setI, xown_setI, xlen_setI, xE_setR, xsz_setR, xsl_setR, xtag_setR, xown_setR, xlen_setR, xE_setW, xsz_setW, xsl_setW, xtag_setW, xown_setW, xlen_setW, xi_setR, xi_setW, xr_setI, xr_setW, xww_setI, xww_setR, xi_setI, xr_setR, xww_setW, xE_new, xsz_new, xsl_new, d1, d4, d5, d7, d8, xt0, xp0, hM.P.tag, dtw, d1w, d2w, d4w, d5w, xtw, xpw, fqw, tqw, dt41, d141, d241, d441, d541, xt41, xp41, fq41, tq41, dt68, d168, d268, d468, d568, xt68, xp68, fq68, tq68, xsub]; done) | (simp [-List.getD_eq_getElem?_getD, xE_setI, xsz_setI, xsl_setI, xtag_setI, xown_setI, xlen_setI, xE_setR, xsz_setR, xsl_setR, xtag_setR, xown_setR, xlen_setR, xE_setW, xsz_setW, xsl_setW, xtag_setW, xown_setW, xlen_setW, xi_setR, xi_setW, xr_setI, xr_setW, xww_setI, xww_setR, xi_setI, xr_setR, xww_setW, xE_new, xsz_new, xsl_new, d1, d4, d5, d7, d8, xt0, xp0, hM.P.tag, dtw, d1w, d2w, d4w, d5w, xtw, xpw, fqw, tqw, dt41, d141, d241, d441, d541, xt41, xp41, fq41, tq41, dt68, d168, d268, d468, d568, xt68, xp68, fq68, tq68] <;> rfl)) (by simp [-List.getD_eq_getElem?_getD, xE_setI, xsz_setI, xsl_setI, xtag_setI, xown_setI, xlen_setI, xE_setR, xsz_setR, xsl_setR, xtag_setR, xown_setR, xlen_setR, xE_setW, xsz_setW, xsl_setW, xtag_setW, xown_setW, xlen_setW, xi_setR, xi_setW, xr_setI, xr_setW, xww_setI, xww_setR, xi_setI, xr_setR, xww_setW, xE_new, xsz_new, xsl_new, d1, d4, d5, d7, d8, xt0, xp0, hM.P.tag, dtw, d1w, d2w, d4w, d5w, xtw, xpw, fqw, tqw, dt41, d141, d241, d441, d541, xt41, xp41, fq41, tq41, dt68, d168, d268, d468, d568, xt68, xp68, fq68, tq68]) ?_
    refine xw_aload_n (pc := 76) dX1_bars_76 0 rfl ?_
    refine xw_aload_n (pc := 77) dX1_bars_77 3 rfl ?_
    refine xw_getNat (k := f) (pc := 78) fd_X1_484 dX1_bars_78 (by first | assumption | (simp [-List.getD_eq_getElem?_getD, xE_setI, xsz_setI, xsl_setI, xtag_setI, xown_setI, xlen_setI, xE_setR, xsz_setR, xsl_setR, xtag_setR, xown_setR, xlen_setR, xE_setW, xsz_setW, xsl_setW, xtag_setW, xown_setW, xlen_setW, xi_setR, xi_setW, xr_setI, xr_setW, xww_setI, xww_setR, xi_setI, xr_setR, xww_setW, xE_new, xsz_new, xsl_new, d1, d4, d5, d7, d8, xt0, xp0, hM.P.tag, dtw, d1w, d2w, d4w, d5w, xtw, xpw, fqw, tqw, dt41, d141, d241, d441, d541, xt41, xp41, fq41, tq41, dt68, d168, d268, d468, d568, xt68, xp68, fq68, tq68, xsub]; done) | (simp [-List.getD_eq_getElem?_getD, xE_setI, xsz_setI, xsl_setI, xtag_setI, xown_setI, xlen_setI, xE_setR, xsz_setR, xsl_setR, xtag_setR, xown_setR, xlen_setR, xE_setW, xsz_setW, xsl_setW, xtag_setW, xown_setW, xlen_setW, xi_setR, xi_setW, xr_setI, xr_setW, xww_setI, xww_setR, xi_setI, xr_setR, xww_setW, xE_new, xsz_new, xsl_new, d1, d4, d5, d7, d8, xt0, xp0, hM.P.tag, dtw, d1w, d2w, d4w, d5w, xtw, xpw, fqw, tqw, dt41, d141, d241, d441, d541, xt41, xp41, fq41, tq41, dt68, d168, d268, d468, d568, xt68, xp68, fq68, tq68] <;> rfl)) (by simp [-List.getD_eq_getElem?_getD, xE_setI, xsz_setI, xsl_setI, xtag_setI, xown_setI, xlen_setI, xE_setR, xsz_setR, xsl_setR, xtag_setR, xown_setR, xlen_setR, xE_setW, xsz_setW, xsl_setW, xtag_setW, xown_setW, xlen_setW, xi_setR, xi_setW, xr_setI, xr_setW, xww_setI, xww_setR, xi_setI, xr_setR, xww_setW, xE_new, xsz_new, xsl_new, d1, d4, d5, d7, d8, xt0, xp0, hM.P.tag, dtw, d1w, d2w, d4w, d5w, xtw, xpw, fqw, tqw, dt41, d141, d241, d441, d541, xt41, xp41, fq41, tq41, dt68, d168, d268, d468, d568, xt68, xp68, fq68, tq68]) ?_
    refine xw_aload_n (pc := 81) dX1_bars_81 3 rfl ?_
    refine xw_getNat (k := l) (pc := 82) fd_X1_485 dX1_bars_82 (by first | assumption | (simp [-List.getD_eq_getElem?_getD, xE_setI, xsz_setI, xsl_setI, xtag_setI, xown_setI, xlen_setI, xE_setR, xsz_setR, xsl_setR, xtag_setR, xown_setR, xlen_setR, xE_setW, xsz_setW, xsl_setW, xtag_setW, xown_setW, xlen_setW, xi_setR, xi_setW, xr_setI, xr_setW, xww_setI, xww_setR, xi_setI, xr_setR, xww_setW, xE_new, xsz_new, xsl_new, d1, d4, d5, d7, d8, xt0, xp0, hM.P.tag, dtw, d1w, d2w, d4w, d5w, xtw, xpw, fqw, tqw, dt41, d141, d241, d441, d541, xt41, xp41, fq41, tq41, dt68, d168, d268, d468, d568, xt68, xp68, fq68, tq68, xsub]; done) | (simp [-List.getD_eq_getElem?_getD, xE_setI, xsz_setI, xsl_setI, xtag_setI, xown_setI, xlen_setI, xE_setR, xsz_setR, xsl_setR, xtag_setR, xown_setR, xlen_setR, xE_setW, xsz_setW, xsl_setW, xtag_setW, xown_setW, xlen_setW, xi_setR, xi_setW, xr_setI, xr_setW, xww_setI, xww_setR, xi_setI, xr_setR, xww_setW, xE_new, xsz_new, xsl_new, d1, d4, d5, d7, d8, xt0, xp0, hM.P.tag, dtw, d1w, d2w, d4w, d5w, xtw, xpw, fqw, tqw, dt41, d141, d241, d441, d541, xt41, xp41, fq41, tq41, dt68, d168, d268, d468, d568, xt68, xp68, fq68, tq68] <;> rfl)) (by simp [-List.getD_eq_getElem?_getD, xE_setI, xsz_setI, xsl_setI, xtag_setI, xown_setI, xlen_setI, xE_setR, xsz_setR, xsl_setR, xtag_setR, xown_setR, xlen_setR, xE_setW, xsz_setW, xsl_setW, xtag_setW, xown_setW, xlen_setW, xi_setR, xi_setW, xr_setI, xr_setW, xww_setI, xww_setR, xi_setI, xr_setR, xww_setW, xE_new, xsz_new, xsl_new, d1, d4, d5, d7, d8, xt0, xp0, hM.P.tag, dtw, d1w, d2w, d4w, d5w, xtw, xpw, fqw, tqw, dt41, d141, d241, d441, d541, xt41, xp41, fq41, tq41, dt68, d168, d268, d468, d568, xt68, xp68, fq68, tq68]) ?_
    refine xw_callF (pc := 85) (xr_V (as := [_, _, _]) ok_X2_barsRule rfl (by decide) q1279 q1280 q1281 (by first | (rw [hP0.tag]; rfl) | (rw [hP41.tag]; rfl) | (rw [hP68.tag]; rfl) | (rw [hP85.tag]; rfl)) (by first | (rw [hP0.tag]; rfl) | (rw [hP41.tag]; rfl) | (rw [hP68.tag]; rfl) | (rw [hP85.tag]; rfl)) dX1_bars_85 rfl rfl (Nat.le_of_ble_eq_true rfl)) (SP_X2_barsRule hP68.pl hW68) ?_
    intro g85 hc85 hm85
    obtain ⟨hW85, F85⟩ := hc85
    have hP85 := hP68.fr F85 (fun o h1 h2 => by have := hM.P.p0; unfold oP at h1; unfold oEq at h2; omega) (by unfold oEq; omega)
    have dt85 : xtag g85 D = 16 := (F85.tag dl68).trans dt68
    have do85 : xown g85 D = 14 := (F85.own dl68).trans do68
    have dl85 := F85.lt dl68
    have di85 : ∀ j, xi g85 D j = xi g D j := fun j => (F85.i' dl68 (by rw [do68]; unfold oEq; omega)).trans (di68 j)
    have d185 : xi g85 D 1 = nI v := (di85 1).trans d4
    have d285 : xi g85 D 2 = nI s := (di85 2).trans d5
    have d485 : xi g85 D 4 = nI f := (di85 4).trans d7
    have d585 : xi g85 D 5 = nI l := (di85 5).trans d8
    have xt85 : xtag g85 x = 1 := (F85.tag xl68).trans xt68
    have xo85 : xown g85 x = 1 := (F85.own xl68).trans xo68
    have xl85 := F85.lt xl68
    have xp85 : xr g85 x 0 = some p := (F85.r' xl68 (by rw [xo68]; unfold oEq; omega)).trans xp68
    have fq85 : xr g85 p 1 = some (aL Z 2) := hP85.f1
    have tq85 : xtag g85 p = 2 := hP85.tag
    have hWB : xWy g85 (xsz g) (wBa n rr true (some v) s f l) := by
      unfold wBa
      rw [hlc] at hb55
      rw [hb55, ← hlr]
      exact hW85
    refine xw_pop (pc := 88) dX1_bars_88 rfl ?_
    refine xw_aload_n (pc := 89) dX1_bars_89 0 rfl ?_
    refine xw_callV (pc := 90) (xr_V (as := []) ok_X10_isNone rfl (by decide) q1306 q1307 q1308 (by first | (rw [hWw.1]; rfl) | (rw [hW41.1]; rfl) | (rw [hW68.1]; rfl) | (rw [hW85.1]; rfl)) (by first | (rw [hWw.1]; rfl) | (rw [hW41.1]; rfl) | (rw [hW68.1]; rfl) | (rw [hW85.1]; rfl)) dX1_bars_90 rfl rfl (Nat.le_of_ble_eq_true rfl)) (SP_X10_isNone hWB) ?_
    refine xw_if_eq (pc := 93) 136 dX1_bars_93 rfl (fun hb93 => ?_) (fun hb93 => ?_)
    rotate_left
    · exfalso
      replace hb93 := bI_n0.mp hb93
      exact absurd (wBa_s (of_decide_eq_true hb93)).1 (by decide)
    replace hb93 := bI_0.mp hb93
    refine xw_aload_n (pc := 136) dX1_bars_136 0 rfl ?_
    refine xw_aret (pc := 137) (.object "PolicyNotation$Whys") dX1_bars_137 rfl ?_
    refine ⟨rfl, ?_, ((((Fw.tr F41).tr F68).tr F85).sub (fun _ h => h) (by omega))⟩
    unfold wBb
    dsimp only
    rw [if_neg hv]
    exact hWB

