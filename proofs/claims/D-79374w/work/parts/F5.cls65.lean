/-! CLASS 65: read -/
set_option maxRecDepth 100000
def oRr (p z : Nat) : Nat → Prop := fun o => o = 5 ∨ o = 7 ∨ oP p o ∨ 1000 * z ≤ o ∨ o = 11 ∨ o = 14 ∨ o = 15
/-- read, and kept -/
def xRdO (g0 : xG) (p dq da tb : Nat) (ch : Nat → Nat) (s0 : Nat → Int32) (ps : List Nat) (s' : Nat → Int32) (n rr ww : Nat) (g' : xG) : Prop := ∃ Z' h' b, xPol g' p Z' s' n rr ww ∧ xsz g0 ≤ b ∧ xPo g' b s0 ∧ xAD g' 7 dq da h' (pastA ps b) ∧ xBd g' 11 tb 0 ch ∧ xFr (oRr p (xsz g0)) 45000 g0 g'
/-- read, and refused -/
def oRf (p rr : Nat) : Nat → Prop := fun o => o = 1 ∨ o = 5 ∨ o = 11 ∨ o = 14 ∨ o = 15 ∨ o = 1000 * p + 10 + rr
def xRdR (g0 : xG) (x tb p rr : Nat) (ch : Nat → Nat) (v : Nat × Int32) (rs : Option Value ⊕ Nat) (g' : xG) : Prop := ∃ q, rs = .inr q ∧ xtag g' q = 26 ∧ xown g' q = 9 ∧ xi g' x 4 = nI v.1 ∧ xi g' x 5 = v.2 ∧ (∀ j, j ≠ 4 → j ≠ 5 → xi g' x j = xi g0 x j) ∧ (∀ j, xr g' x j = xr g0 x j) ∧ xBd g' 11 tb 0 ch ∧ xFr (oRf p rr) 45000 g0 g'

theorem rd_83 {d : Nat} {g g0 : xG} {N0 : Nat} {x p lk fa ka la n rr ww : Nat} {Z : xAd} {S : xMS} (hM : xMn g x p lk fa ka la Z S n rr ww) {dq da h : Nat} {ps : List Nat} (hPa : xr g x 2 = some dq ∧ xAD g 7 dq da h ps ∧ True ∧ ps.length ≤ 8) {tb ln : Nat} {ch : Nat → Nat} (h8 : xr g x 8 = some tb) (hB : xBd g 11 tb ln ch) (hln : ln ≤ 60) {sN : Nat → Int32} {C tlC taC : Nat} {ts : List Nat} (hRu : xRu g sN rr C (1000 * p + 10 + rr) tlC taC ts ∧ xown g C = 1000 * p ∧ 4 ≤ xlen g taC ∧ (xtag g C = 6 ∨ xtag g C = 7)) (hts : ∀ j, j < ts.length → xown g (ts.getD j 0) = 2) (hW : WFru sN n rr) (s1 : sN 1 = nI (rr + 1)) (s2 : ∀ j, j < 391 → j ≠ 1 → (j < 23 + 20 * rr ∨ 43 + 20 * rr ≤ j) → sN j = S 1 j) (hr16 : rr < 16) {A D : Nat} (F0 : xFr (oRr p (xsz g0)) N0 g0 g) (hN0 : N0 ≤ 40000) : XW M_X1_read (d + 80) 83 [(4, .int (nI ts.length)), (3, .ref A), (2, .ref C), (1, .ref D), (0, .ref x)] [] g (xVal (.int (nI rr)) (xRdO g0 p dq da tb ch (S 1) ps sN n (rr + 1) ww)) := by
  have hlr := hM.P.lr
  have hCl : C < xsz g := xlt (by rcases hRu.2.2.2 with z | z <;> rw [z] <;> decide)
  have htl : tlC < xsz g := xlt (by rw [hRu.1.2.2.2.2.2.2.2.2.1.1]; decide)
  have hta : taC < xsz g := xlt (by rw [hRu.1.2.2.2.2.2.2.2.2.1.2.2.2.2.1]; decide)
  have p0 := hM.P.p0
  refine xw_aload_n (pc := 83) dX1_read_83 4 rfl ?_
  refine xw_getS (b := p) (pc := 84) fd_X1_10 dX1_read_84 (by first | assumption | (simp [-List.getD_eq_getElem?_getD, xE_setI, xsz_setI, xsl_setI, xtag_setI, xown_setI, xlen_setI, xE_setR, xsz_setR, xsl_setR, xtag_setR, xown_setR, xlen_setR, xE_setW, xsz_setW, xsl_setW, xtag_setW, xown_setW, xlen_setW, xi_setR, xi_setW, xr_setI, xr_setW, xww_setI, xww_setR, xi_setI, xr_setR, xww_setW, xE_new, xsz_new, xsl_new, hM.tx, hM.xp, hM.l3, h8, xsub]; done) | (simp [-List.getD_eq_getElem?_getD, xE_setI, xsz_setI, xsl_setI, xtag_setI, xown_setI, xlen_setI, xE_setR, xsz_setR, xsl_setR, xtag_setR, xown_setR, xlen_setR, xE_setW, xsz_setW, xsl_setW, xtag_setW, xown_setW, xlen_setW, xi_setR, xi_setW, xr_setI, xr_setW, xww_setI, xww_setR, xi_setI, xr_setR, xww_setW, xE_new, xsz_new, xsl_new, hM.tx, hM.xp, hM.l3, h8] <;> rfl)) (by simp [-List.getD_eq_getElem?_getD, xE_setI, xsz_setI, xsl_setI, xtag_setI, xown_setI, xlen_setI, xE_setR, xsz_setR, xsl_setR, xtag_setR, xown_setR, xlen_setR, xE_setW, xsz_setW, xsl_setW, xtag_setW, xown_setW, xlen_setW, xi_setR, xi_setW, xr_setI, xr_setW, xww_setI, xww_setR, xi_setI, xr_setR, xww_setW, xE_new, xsz_new, xsl_new, hM.tx, hM.xp, hM.l3, h8]) ?_
  refine xw_callF (pc := 87) (xr_V (as := []) ok_X2_copy rfl (by decide) q902 q903 q904 (by first | (rw [hP2.tag]; rfl) | (rw [hM.P.tag]; rfl)) (by first | (rw [hP2.tag]; rfl) | (rw [hM.P.tag]; rfl)) dX1_read_87 rfl rfl (Nat.le_of_ble_eq_true rfl)) (SP_X2_copy (d := d + 70) hM.P) ?_
  intro g87 hc87 hm87
  obtain ⟨Zq, hPq, FC⟩ := hc87
  have hp0 := hM.P.p0
  have hlp := hM.P.lt
  have hxl : x < xsz g := xlt (by rw [hM.tx]; decide)
  have nxC : ¬ oP (xsz g) (xown g x) := by rw [hM.ox]; unfold oP; omega
  have oKC : oKeep (oP (xsz g)) := by unfold oKeep oP; omega
  have hP2 := hM.P.fr FC (fun o h1 h2 => by unfold oP at h1 h2; omega) (by unfold oP; omega)
  have hMc := hM.fr FC oKC hP2
  have hDc := hPa.2.1.fr FC (by unfold oP; omega)
  have txC : xtag g87 x = 1 := hMc.tx
  have xpC : xr g87 x 0 = some p := hMc.xp
  have tpC : xtag g87 p = 2 := hP2.tag
  have nC : ¬ oP (xsz g) (xown g C) := by rw [hRu.2.1]; unfold oP; omega
  have cC : xc g87 C = xc g C := FC.c hCl nC
  have ru87 := hRu.1.fr hts FC nC (by unfold oP; omega) (by unfold oP; omega)
  have ts87 : ∀ j, j < ts.length → xown g87 (ts.getD j 0) = 2 := fun j hj => (FC.own (xlt (by have := (hRu.1.2.2.2.2.2.2.2.2.2.1.2 j hj).1; omega))).trans (hts j hj)
  have rC0 : xi g87 C 0 = nI rr := ru87.2.1
  refine xw_astore (l' := [(4, _), (3, _), (2, _), (1, _), (0, _)]) (pc := 90) dX1_read_90 (by decide) rfl ?_
  refine xw_aload_n (pc := 92) dX1_read_92 4 rfl ?_
  refine xw_aload (pc := 93) dX1_read_93 0 rfl ?_
  refine xw_aload_n (pc := 95) dX1_read_95 4 rfl ?_
  refine xw_getS (b := p) (pc := 96) fd_X1_10 dX1_read_96 (by first | assumption | (simp [-List.getD_eq_getElem?_getD, xE_setI, xsz_setI, xsl_setI, xtag_setI, xown_setI, xlen_setI, xE_setR, xsz_setR, xsl_setR, xtag_setR, xown_setR, xlen_setR, xE_setW, xsz_setW, xsl_setW, xtag_setW, xown_setW, xlen_setW, xi_setR, xi_setW, xr_setI, xr_setW, xww_setI, xww_setR, xi_setI, xr_setR, xww_setW, xE_new, xsz_new, xsl_new, hM.tx, hM.xp, hM.l3, h8, txC, xpC, tpC, xsub]; done) | (simp [-List.getD_eq_getElem?_getD, xE_setI, xsz_setI, xsl_setI, xtag_setI, xown_setI, xlen_setI, xE_setR, xsz_setR, xsl_setR, xtag_setR, xown_setR, xlen_setR, xE_setW, xsz_setW, xsl_setW, xtag_setW, xown_setW, xlen_setW, xi_setR, xi_setW, xr_setI, xr_setW, xww_setI, xww_setR, xi_setI, xr_setR, xww_setW, xE_new, xsz_new, xsl_new, hM.tx, hM.xp, hM.l3, h8, txC, xpC, tpC] <;> rfl)) (by simp [-List.getD_eq_getElem?_getD, xE_setI, xsz_setI, xsl_setI, xtag_setI, xown_setI, xlen_setI, xE_setR, xsz_setR, xsl_setR, xtag_setR, xown_setR, xlen_setR, xE_setW, xsz_setW, xsl_setW, xtag_setW, xown_setW, xlen_setW, xi_setR, xi_setW, xr_setI, xr_setW, xww_setI, xww_setR, xi_setI, xr_setR, xww_setW, xE_new, xsz_new, xsl_new, hM.tx, hM.xp, hM.l3, h8, txC, xpC, tpC]) ?_
  refine xw_aload_n (pc := 99) dX1_read_99 2 rfl ?_
  refine xw_callF (pc := 100) (xr_V (as := [_]) ok_X2_add rfl (by decide) q1327 q1328 q1329 (by first | (rw [hP2.tag]; rfl) | (rw [hM.P.tag]; rfl)) (by first | (rw [hP2.tag]; rfl) | (rw [hM.P.tag]; rfl)) dX1_read_100 rfl rfl (Nat.le_of_ble_eq_true rfl)) (SP_X2_add hP2.pl (by omega) (by rw [xtag_of cC]; exact hRu.2.2.2) (by rw [xown_of cC, hRu.2.1]; omega) (by have := hP2.c1; omega)) ?_
  intro g100 hc100 hm100
  have F2 : xFr (oP p) 0 g87 g100 := hc100.2.sub (fun o h1 => by unfold oEq at h1; unfold oP; omega) (Nat.le_refl _)
  have nC2 : ¬ oEq (1000 * p + 2) (xown g87 C) := by rw [xown_of cC, hRu.2.1]; unfold oEq; omega
  have ruN := ru87.fr ts87 hc100.2 nC2 (by unfold oEq; omega) (by unfold oEq; omega)
  have hP9 : xPol g100 p _ sN n (rr + 1) ww := hP2.addRT hc100.2 hc100.1 hr16 ⟨ruN, (hc100.2.own (FC.lt hCl)).trans ((xown_of cC).trans hRu.2.1), by rw [hc100.2.len (FC.lt hta), FC.len hta]; exact hRu.2.2.1⟩ (fun j hj => (hc100.2.own (xlt (by have := (ru87.2.2.2.2.2.2.2.2.2.1.2 j hj).1; omega))).trans (ts87 j hj)) s1 s2 hW
  have oKP : oKeep (oP p) := by unfold oKeep oP; omega
  have hM9 := hMc.fr (S' := fun _ => sN) F2 oKP hP9
  have hD9 := hDc.fr F2 (by unfold oP; omega)
  have hPq9 := hPq.fr F2 (fun o h1 h2 => by unfold oP at h1 h2; omega) (by unfold oP; omega)
  have nx9 : ¬ oP p (xown g87 x) := by rw [hMc.ox]; unfold oP; omega
  have hx29 : xr g100 x 2 = some dq := (F2.r' (FC.lt hxl) nx9).trans ((FC.r' hxl nxC).trans hPa.1)
  refine xw_callF (pc := 103) (xr_V (as := [_, _]) ok_X1_changed rfl (by decide) q1110 q1112 qs19 (by first | (rw [hM9.tx]; rfl) | (rw [hM.tx]; rfl)) (by first | (rw [hM9.tx]; rfl) | (rw [hM.tx]; rfl)) dX1_read_103 rfl rfl (Nat.le_of_ble_eq_true rfl)) (SP_X1_changed hM9.tx hx29 hM9.ox hD9 hPa.2.2.2 hPq9.tag) ?_
  intro g103 hc103 hm103
  have tx103 : xtag g103 x = 1 := (hc103.2.tag (F2.lt (FC.lt hxl))).trans hM9.tx
  have nx7 : ¬ oEq 7 (xown g100 x) := by rw [hM9.ox]; unfold oEq; omega
  have h8C : xr g103 x 8 = some tb := (hc103.2.r' (F2.lt (FC.lt hxl)) nx7).trans ((F2.r' (FC.lt hxl) nx9).trans ((FC.r' hxl nxC).trans h8))
  have hB11 := ((hB.fr FC (by unfold oP; omega)).fr F2 (by unfold oP; omega)).fr hc103.2 (by unfold oEq; omega)
  refine xw_istore (l' := [(5, _), (4, _), (3, _), (2, _), (1, _), (0, _)]) (pc := 106) dX1_read_106 (by decide) rfl ?_
  refine xw_aload_n (pc := 108) dX1_read_108 5 rfl ?_
  refine xw_getS (b := tb) (pc := 109) fd_X1_47 dX1_read_109 (by first | assumption | (simp [-List.getD_eq_getElem?_getD, xE_setI, xsz_setI, xsl_setI, xtag_setI, xown_setI, xlen_setI, xE_setR, xsz_setR, xsl_setR, xtag_setR, xown_setR, xlen_setR, xE_setW, xsz_setW, xsl_setW, xtag_setW, xown_setW, xlen_setW, xi_setR, xi_setW, xr_setI, xr_setW, xww_setI, xww_setR, xi_setI, xr_setR, xww_setW, xE_new, xsz_new, xsl_new, hM.tx, hM.xp, hM.l3, h8, txC, xpC, tpC, tx103, h8C, xsub]; done) | (simp [-List.getD_eq_getElem?_getD, xE_setI, xsz_setI, xsl_setI, xtag_setI, xown_setI, xlen_setI, xE_setR, xsz_setR, xsl_setR, xtag_setR, xown_setR, xlen_setR, xE_setW, xsz_setW, xsl_setW, xtag_setW, xown_setW, xlen_setW, xi_setR, xi_setW, xr_setI, xr_setW, xww_setI, xww_setR, xi_setI, xr_setR, xww_setW, xE_new, xsz_new, xsl_new, hM.tx, hM.xp, hM.l3, h8, txC, xpC, tpC, tx103, h8C] <;> rfl)) (by simp [-List.getD_eq_getElem?_getD, xE_setI, xsz_setI, xsl_setI, xtag_setI, xown_setI, xlen_setI, xE_setR, xsz_setR, xsl_setR, xtag_setR, xown_setR, xlen_setR, xE_setW, xsz_setW, xsl_setW, xtag_setW, xown_setW, xlen_setW, xi_setR, xi_setW, xr_setI, xr_setW, xww_setI, xww_setR, xi_setI, xr_setR, xww_setW, xE_new, xsz_new, xsl_new, hM.tx, hM.xp, hM.l3, h8, txC, xpC, tpC, tx103, h8C]) ?_
  refine xw_iconst (v := nI 0) (pc := 112) dX1_read_112 rfl ?_
  refine xw_callH (pc := 113) (xr_V (as := [_]) ok_J8_setLength rfl (by decide) q2079 q2080 q2081 (by first | (rw [hB11.tag]; rfl) | (rw [hB.tag]; rfl)) (by first | (rw [hB11.tag]; rfl) | (rw [hB.tag]; rfl)) dX1_read_113 rfl rfl (Nat.le_of_ble_eq_true rfl)) (SP_J8_setLength (d := d + 73) hB11 (by decide) (by omega)) ?_
  intro g113 hc113 hm113
  refine xw_iload (pc := 116) dX1_read_116 0 rfl ?_
  refine xw_iret (pc := 118) .int dX1_read_118 rfl ?_ 
  have nx11 : ¬ oEq 7 (xown g100 x) := by rw [hM9.ox]; unfold oEq; omega
  obtain ⟨hb9, F113⟩ := hc113
  have F103 := hc103.2
  refine ⟨?_, _, _, xsz g, (hP9.fr F103 (fun o h1 h2 => by unfold oP at h1; unfold oEq at h2; omega) (by unfold oEq; omega)).fr F113 (fun o h1 h2 => by unfold oP at h1; unfold oEq at h2; omega) (by unfold oEq; omega), F0.le, ⟨_, _, _, _, (hPq9.fr F103 (fun o h1 h2 => by unfold oP at h1; unfold oEq at h2; omega) (by unfold oEq; omega)).fr F113 (fun o h1 h2 => by unfold oP at h1; unfold oEq at h2; omega) (by unfold oEq; omega)⟩, hc103.1.choose_spec.fr F113 (by unfold oEq; omega), hb9, ?_⟩
  · exact congrArg (fun v => Sum.inl (some (Value.int v))) (rC0.trans rfl)
  have hzz := F0.le
  exact ((((F0.tr (FC.sub (m := 1404) (O' := oRr p (xsz g0)) (fun o h1 => by unfold oP at h1; unfold oRr; omega) (Nat.le_refl _))).tr (F2.sub (m := 0) (O' := oRr p (xsz g0)) (fun o h1 => by unfold oRr; exact Or.inr (Or.inr (Or.inl h1))) (Nat.le_refl _))).tr (F103.sub (m := 0) (O' := oRr p (xsz g0)) (fun o h1 => by unfold oEq at h1; unfold oRr; omega) (Nat.le_refl _))).tr (F113.sub (m := 0) (O' := oRr p (xsz g0)) (fun o h1 => by unfold oEq at h1; unfold oRr; omega) (Nat.le_refl _))).sub (fun _ h => h) (by omega)
theorem lp_X1_read {d : Nat} {g : xG} {x D C A tl arr : Nat} {eff : Option Nat} {of sc rk f l : Int32} {ts : List Nat} (hD : xDr g D eff of sc rk f l tl arr ts) (hob : ∀ i, i < ts.length → 10 ≤ xtag g (ts.getD i 0) ∧ xtag g (ts.getD i 0) ≤ 13) (hm : ts.length ≤ 15) (hA0 : xsz g ≤ A) {Q : Option Value ⊕ Nat → xG → Prop} (hq : ∀ (g' : xG) (N : Nat), xtag g' A = 109 → xown g' A = 2 → xlen g' A = ts.length → (∀ i, i < ts.length → xr g' A i = some (ts.getD i 0)) → xFr oNo N g g' → N ≤ 20 → XW M_X1_read (d + 80) 73 [(4, .int (nI ts.length)), (3, .ref A), (2, .ref C), (1, .ref D), (0, .ref x)] [] g' Q) : ∀ (j k N : Nat) (gk : xG), ts.length - k < j → k ≤ ts.length → xtag gk A = 109 → xown gk A = 2 → xlen gk A = ts.length → (∀ i, i < k → xr gk A i = some (ts.getD i 0)) → xFr oNo N g gk → N ≤ 20 → XW M_X1_read (d + 80) 44 [(4, .int (nI k)), (3, .ref A), (2, .ref C), (1, .ref D), (0, .ref x)] [] gk Q := by
  intro j
  induction j with
  | zero => intro k N gk h; omega
  | succ j ih =>
  intro k N gk hj hk a1 a2 a3 a4 F hN
  have hDl : D < xsz g := xlt (by rw [hD.1]; decide)
  have hDk := hD.fr F (F.c hDl (fun z => z)) (fun z => z)
  have dT : xtag gk D = 16 := hDk.1
  have dF : xr gk D 6 = some tl := hDk.2.2.2.2.2.2.2.2.1
  have a2n : xown gk A ≠ 0 := by rw [a2]; decide
  refine xw_iload (pc := 44) dX1_read_44 0 rfl ?_
  refine xw_aload_n (pc := 46) dX1_read_46 1 rfl ?_
  refine xw_alen (q := 8) (pc := 47) dX1_read_47 (by simp [-List.getD_eq_getElem?_getD, xE_setI, xsz_setI, xsl_setI, xtag_setI, xown_setI, xlen_setI, xE_setR, xsz_setR, xsl_setR, xtag_setR, xown_setR, xlen_setR, xE_setW, xsz_setW, xsl_setW, xtag_setW, xown_setW, xlen_setW, xi_setR, xi_setW, xr_setI, xr_setW, xww_setI, xww_setR, xi_setI, xr_setR, xww_setW, xE_new, xsz_new, xsl_new, a1, a3, dT, dF, a2n]) (by first | decide | omega) ?_
  rw [show xlen _ A = ts.length from by simp [-List.getD_eq_getElem?_getD, xE_setI, xsz_setI, xsl_setI, xtag_setI, xown_setI, xlen_setI, xE_setR, xsz_setR, xsl_setR, xtag_setR, xown_setR, xlen_setR, xE_setW, xsz_setW, xsl_setW, xtag_setW, xown_setW, xlen_setW, xi_setR, xi_setW, xr_setI, xr_setW, xww_setI, xww_setR, xi_setI, xr_setR, xww_setW, xE_new, xsz_new, xsl_new, a1, a3, dT, dF, a2n]]
  refine xw_icmp_ge (pc := 48) 73 dX1_read_48 rfl (fun hb48 => ?_) (fun hb48 => ?_)
  · replace hb48 : ts.length ≤ k := (nI_leI (a := ts.length) (b := k) (by omega) (by omega)).mp hb48
    have ek : k = ts.length := by omega
    subst ek
    exact hq gk N a1 a2 a3 a4 F hN
  · replace hb48 : ¬ (ts.length ≤ k) := mt (nI_leI (a := ts.length) (b := k) (by omega) (by omega)).mpr hb48
    have hTk : 10 ≤ xtag gk (ts.getD k 0) ∧ xtag gk (ts.getD k 0) ≤ 13 := by
      have h9 := hob k (by omega)
      rw [F.tag (xlt (by omega))]
      exact h9
    refine xw_aload_n (pc := 51) dX1_read_51 1 rfl ?_
    refine xw_iload (pc := 52) dX1_read_52 0 rfl ?_
    skip
    refine xw_aload_n (pc := 54) dX1_read_54 3 rfl ?_
    refine xw_getS (b := tl) (pc := 55) fd_X1_506 dX1_read_55 (by first | assumption | (simp [-List.getD_eq_getElem?_getD, xE_setI, xsz_setI, xsl_setI, xtag_setI, xown_setI, xlen_setI, xE_setR, xsz_setR, xsl_setR, xtag_setR, xown_setR, xlen_setR, xE_setW, xsz_setW, xsl_setW, xtag_setW, xown_setW, xlen_setW, xi_setR, xi_setW, xr_setI, xr_setW, xww_setI, xww_setR, xi_setI, xr_setR, xww_setW, xE_new, xsz_new, xsl_new, a1, a3, dT, dF, a2n, xsub]; done) | (simp [-List.getD_eq_getElem?_getD, xE_setI, xsz_setI, xsl_setI, xtag_setI, xown_setI, xlen_setI, xE_setR, xsz_setR, xsl_setR, xtag_setR, xown_setR, xlen_setR, xE_setW, xsz_setW, xsl_setW, xtag_setW, xown_setW, xlen_setW, xi_setR, xi_setW, xr_setI, xr_setW, xww_setI, xww_setR, xi_setI, xr_setR, xww_setW, xE_new, xsz_new, xsl_new, a1, a3, dT, dF, a2n] <;> rfl)) (by simp [-List.getD_eq_getElem?_getD, xE_setI, xsz_setI, xsl_setI, xtag_setI, xown_setI, xlen_setI, xE_setR, xsz_setR, xsl_setR, xtag_setR, xown_setR, xlen_setR, xE_setW, xsz_setW, xsl_setW, xtag_setW, xown_setW, xlen_setW, xi_setR, xi_setW, xr_setI, xr_setW, xww_setI, xww_setR, xi_setI, xr_setR, xww_setW, xE_new, xsz_new, xsl_new, a1, a3, dT, dF, a2n]) ?_
    refine xw_iload (pc := 58) dX1_read_58 0 rfl ?_
    refine xw_callV (pc := 60) (xr_V (as := [_]) ok_J2_get rfl (by decide) q705 q706 q707 (by rw [hDk.2.2.2.2.2.2.2.2.2.1]; rfl) (by rw [hDk.2.2.2.2.2.2.2.2.2.1]; rfl) dX1_read_60 rfl rfl (Nat.le_of_ble_eq_true rfl)) (SP_J2_get hDk.2.2.2.2.2.2.2.2.2 k (by omega)) ?_
    refine xw_chkT (pc := 63) dX1_read_63 q656 (by exact hTk.1) (by exact hTk.2) ?_
    refine xw_aast (q := 8) (k := k) (pc := 66) dX1_read_66 (by simp [-List.getD_eq_getElem?_getD, xE_setI, xsz_setI, xsl_setI, xtag_setI, xown_setI, xlen_setI, xE_setR, xsz_setR, xsl_setR, xtag_setR, xown_setR, xlen_setR, xE_setW, xsz_setW, xsl_setW, xtag_setW, xown_setW, xlen_setW, xi_setR, xi_setW, xr_setI, xr_setW, xww_setI, xww_setR, xi_setI, xr_setR, xww_setW, xE_new, xsz_new, xsl_new, a1, a3, dT, dF, a2n]) (by decide) (by decide) rfl (by first | assumption | (simp [-List.getD_eq_getElem?_getD, xE_setI, xsz_setI, xsl_setI, xtag_setI, xown_setI, xlen_setI, xE_setR, xsz_setR, xsl_setR, xtag_setR, xown_setR, xlen_setR, xE_setW, xsz_setW, xsl_setW, xtag_setW, xown_setW, xlen_setW, xi_setR, xi_setW, xr_setI, xr_setW, xww_setI, xww_setR, xi_setI, xr_setR, xww_setW, xE_new, xsz_new, xsl_new, a1, a3, dT, dF, a2n]; done) | (simp [-List.getD_eq_getElem?_getD, xE_setI, xsz_setI, xsl_setI, xtag_setI, xown_setI, xlen_setI, xE_setR, xsz_setR, xsl_setR, xtag_setR, xown_setR, xlen_setR, xE_setW, xsz_setW, xsl_setW, xtag_setW, xown_setW, xlen_setW, xi_setR, xi_setW, xr_setI, xr_setW, xww_setI, xww_setR, xi_setI, xr_setR, xww_setW, xE_new, xsz_new, xsl_new, a1, a3, dT, dF, a2n]; assumption)) rfl (by omega) (by exact (x_castT hTk.1 hTk.2).1) (by exact (x_castT hTk.1 hTk.2).2) ?_
    refine xw_iinc (v := nI (k + 1)) (l' := [(4, _), (3, _), (2, _), (1, _), (0, _)]) (pc := 67) dX1_read_67 0 rfl (nI_add _ 1) (by decide) rfl ?_
    refine xw_goto (pc := 70) 44 dX1_read_70 rfl ?_
    refine ih (k + 1) N (xsetR gk A k (some (ts.getD k 0))) (by omega) (by omega) (by rw [xtag_setR]; exact a1) (by rw [xown_setR]; exact a2) (by rw [xlen_setR]; exact a3) (fun i hi => ?_) (F.sr (Or.inl hA0)) hN
    by_cases e : i = k
    · subst e
      exact xr_setRS (by rw [a1]; decide)
    · exact (xr_setRK e).trans (a4 i (by omega))
theorem xMn.frP {g g' : xG} {x p lk fa ka la n rr ww N : Nat} {Z : xAd} {S : xMS} {O : Nat → Prop} {Z' : xAd} {n' rr' ww' : Nat} (hM : xMn g x p lk fa ka la Z S n rr ww) (F : xFr O N g g') (o0 : ¬ O 0) (o1 : ¬ O 1) (o6 : ¬ O 6) (hP : xPol g' p Z' (S 1) n' rr' ww') : xMn g' x p lk fa ka la Z' S n' rr' ww' := by
  have hx : x < xsz g := xlt (by rw [hM.tx]; decide)
  have nx : ¬ O (xown g x) := by rw [hM.ox]; exact o1
  obtain ⟨e1, e2, e3⟩ := hM.em
  have he : (xE g).2.2.1 4 < xsz g := xlt (by rw [e1]; decide)
  have hl : lk < xsz g := xlt (by rw [hM.B.lt]; decide)
  exact ⟨⟨(F.tag hx).trans hM.tx, (F.own hx).trans hM.ox, (F.r' hx nx).trans hM.xp⟩, hP, (F.r' hx nx).trans hM.l3, hM.B.fr F (fun j _ => F.r' hl (by rw [hM.B.lko]; exact o6)), hM.cn.fr F o0, ⟨by rw [F.e, F.tag he]; exact e1, by rw [F.e, F.len he]; exact e2, by rw [F.e, F.own he]; exact e3⟩⟩
theorem re_73 {d : Nat} {g g0 : xG} {N0 : Nat} {x p lk fa ka la n rr ww : Nat} {Z : xAd} {S : xMS} (hM : xMn g x p lk fa ka la Z S n rr ww) {dq da h : Nat} {ps : List Nat} (hPa : xr g x 2 = some dq ∧ xAD g 7 dq da h ps ∧ True ∧ ps.length ≤ 8) {tb ln : Nat} {ch : Nat → Nat} (h80 : xr g0 x 8 = some tb) (hB : xBd g 11 tb ln ch) (hln : ln ≤ 60) (tx0 : xtag g0 x = 1) (ox0 : xown g0 x = 1) (hxl0 : x < xsz g0) (hxi : ∀ j, xi g x j = xi g0 x j) (hxr : ∀ j, xr g x j = xr g0 x j) {sN : Nat → Int32} {C tlC taC : Nat} {ts : List Nat} {T : List xT3} (hT : xTq g ts T) (hTo : tsOk T) (hTm : T.length ≤ 15) (hRu : xRu g sN rr C (1000 * p + 10 + rr) tlC taC [] ∧ xown g C = 1000 * p ∧ 4 ≤ xlen g taC ∧ (xtag g C = 6 ∨ xtag g C = 7)) (hW : WFru sN n rr) (s1 : sN 1 = nI (rr + 1)) (s2 : ∀ j, j < 391 → j ≠ 1 → (j < 23 + 20 * rr ∨ 43 + 20 * rr ≤ j) → sN j = S 1 j) (hr16 : rr < 16) {A D : Nat} (a1 : xtag g A = 109) (a2 : xown g A = 2) (a3 : xlen g A = ts.length) (a4 : ∀ i, i < ts.length → xr g A i = some (ts.getD i 0)) (F0 : xFr (oRr p (xsz g0)) N0 g0 g) (hN0 : N0 ≤ 20000) (hv : (hindT (fun f v => allK (fun k => tOK (uT T) (3 * k) f v) T.length) T.length).1 = 0) : XW M_X1_read (d + 80) 73 [(4, .int (nI ts.length)), (3, .ref A), (2, .ref C), (1, .ref D), (0, .ref x)] [] g (xVal (.int (nI rr)) (xRdO g0 p dq da tb ch (S 1) ps (tsUp sN rr 0 (uT T) T.length) n (rr + 1) ww)) := by
  have hlr := hM.P.lr
  have p0 := hM.P.p0
  have nC : xown g C ≠ 1000 * p + 10 + rr := by rw [hRu.2.1]; omega
  have tts : ∀ j, j < ts.length → xTe g (ts.getD j 0) (uT T) (3 * j) := fun j hj => hT.te hTo hj
  have HA : xAd15 g C (1000 * p + 10 + rr) tlC taC A [] ts := ⟨hRu.2.2.2, hRu.1.2.2.2.2.2.2.2.1, nC, by omega, hRu.1.2.2.2.2.2.2.2.2.1, ⟨fun j hj => ⟨(tts j hj).1, (tts j hj).2.1⟩, fun j hj => (tts j hj).2.2.1⟩, ⟨a1, by rw [a2]; omega, a3, a4⟩, by simp, by rw [hT.1]; omega⟩
  have eW := adW_s (g := g) (ts := []) (us := ts) (s := sN) (r := rr) (u := uT T) hRu.1.2.2.2.2.2.2.2.2.2.1 tts
  rw [show ([] : List Nat).length = 0 from rfl, FAc_0, Nat.zero_add, hT.1] at eW
  refine xw_aload_n (pc := 73) dX1_read_73 4 rfl ?_
  refine xw_aload_n (pc := 74) dX1_read_74 4 rfl ?_
  refine xw_aload_n (pc := 75) dX1_read_75 2 rfl ?_
  refine xw_aload_n (pc := 76) dX1_read_76 1 rfl ?_
  refine xw_callA (pc := 77) (xr_V (as := [_, _]) ok_X1_adds rfl (by decide) q1418 q1420 qs23 (by first | (rw [tx77]; rfl) | (rw [hM.tx]; rfl)) (by first | (rw [tx77]; rfl) | (rw [hM.tx]; rfl)) dX1_read_77 rfl rfl (Nat.le_of_ble_eq_true rfl)) (SP_X1_adds15 (d := d + 59) (x := x) HA (by rw [hRu.2.1]; omega)) ?_
  intro a77 g77 hc77 hm77
  obtain ⟨hw0, ⟨arr', hAL, hLE⟩, F77⟩ := hc77
  have hw9 : xWy g77 a77 (hindT (fun f v => allK (fun k => tOK (uT T) (3 * k) f v) T.length) T.length) := hw0.congr eW
  have nx : ¬ (fun c => c = 1000 * p + 10 + rr ∨ c = 5) (xown g x) := by rw [hM.ox]; dsimp only; omega
  have hxl : x < xsz g := xlt (by rw [hM.tx]; decide)
  have tx77 : xtag g77 x = 1 := (F77.tag hxl).trans hM.tx
  rw [if_pos (eW.1.trans hv), List.nil_append] at hAL
  have hm4 : T.length ≤ 4 := hindT_c (FA := fun f v => allK (fun k => tOK (uT T) (3 * k) f v) T.length) (by omega)
  have hm5 : ts.length ≤ 4 := by rw [hT.1]; exact hm4
  have hP9 := hM.P.frN F77 (by omega) (by omega) (by omega) (by omega) (fun r hr9 => by omega) (by omega)
  have hM9 : xMn g77 x p lk fa ka la Z S n rr ww := hM.frP F77 (by omega) (by omega) (by omega) hP9
  have h8a : xr g77 x 8 = some tb := (F77.r' hxl nx).trans ((hxr 8).trans h80)
  refine xw_callU (pc := 80) (xr_V (as := [_]) ok_X1_refuse rfl (by decide) q1302 q1304 qs22 (by first | (rw [tx77]; rfl) | (rw [hM.tx]; rfl)) (by first | (rw [tx77]; rfl) | (rw [hM.tx]; rfl)) dX1_read_80 rfl rfl (Nat.le_of_ble_eq_true rfl)) (SP_X1_refuse_N hw9 hv) ?_
  have hzz := F0.le
  have FF : xFr (oRr p (xsz g0)) (N0 + 16000) g0 g77 := F0.tr (F77.sub (m := 16000) (O' := oRr p (xsz g0)) (fun o h1 => by unfold oRr oP; omega) (Nat.le_refl _))
  have hCl : C < xsz g := xlt (by rcases hRu.2.2.2 with z | z <;> rw [z] <;> decide)
  have ruN := hRu.1.addT (u := uT T) hr16 F77 (by rw [hRu.2.1]; omega) hAL hm5 (fun k hk => (tts k hk).fr F77 (by omega))
  rw [hT.1] at ruN
  have hW9 := hW.addT (us := ts) (u := uT T) hr16 hRu.1.2.2.2.2.2.2.2.2.2.1.1.symm hm5 (fun k hk => ⟨(tts k hk).2.2.2.1, (tts k hk).2.2.2.2.1, (tts k hk).2.2.2.2.2.1⟩)
  rw [hT.1] at hW9
  exact rd_83 hM9 ⟨(F77.r' hxl nx).trans hPa.1, hPa.2.1.fr F77 (by omega), trivial, hPa.2.2.2⟩ h8a (hB.fr F77 (by omega)) hln ⟨ruN, (F77.own hCl).trans hRu.2.1, Nat.le_trans hRu.2.2.1 hLE, by rw [F77.tag hCl]; exact hRu.2.2.2⟩ (fun j hj => (F77.own (xlt (by have := (tts j hj).1; omega))).trans (tts j hj).2.2.1) hW9 ((if_neg (by omega)).trans ((if_neg (by omega)).trans s1)) (fun j h1 h2 h3 => (tsUp_o (by omega) h3).trans (s2 j h1 h2 h3)) hr16 FF (by omega)
theorem re_73_R {d : Nat} {g g0 : xG} {N0 : Nat} {x p lk fa ka la n rr ww : Nat} {Z : xAd} {S : xMS} (hM : xMn g x p lk fa ka la Z S n rr ww)  {tb ln : Nat} {ch : Nat → Nat} (h80 : xr g0 x 8 = some tb) (hB : xBd g 11 tb ln ch) (hln : ln ≤ 60) (tx0 : xtag g0 x = 1) (ox0 : xown g0 x = 1) (hxl0 : x < xsz g0) (hxi : ∀ j, xi g x j = xi g0 x j) (hxr : ∀ j, xr g x j = xr g0 x j) {sN : Nat → Int32} {C tlC taC : Nat} {ts : List Nat} {T : List xT3} (hT : xTq g ts T) (hTo : tsOk T) (hTm : T.length ≤ 15) (hRu : xRu g sN rr C (1000 * p + 10 + rr) tlC taC [] ∧ xown g C = 1000 * p ∧ 4 ≤ xlen g taC ∧ (xtag g C = 6 ∨ xtag g C = 7)) (hW : WFru sN n rr) (s1 : sN 1 = nI (rr + 1)) (s2 : ∀ j, j < 391 → j ≠ 1 → (j < 23 + 20 * rr ∨ 43 + 20 * rr ≤ j) → sN j = S 1 j) (hr16 : rr < 16) {A D : Nat} (a1 : xtag g A = 109) (a2 : xown g A = 2) (a3 : xlen g A = ts.length) (a4 : ∀ i, i < ts.length → xr g A i = some (ts.getD i 0)) (F0 : xFr (oRf p rr) N0 g0 g) (hN0 : N0 ≤ 20000) (hv : (hindT (fun f v => allK (fun k => tOK (uT T) (3 * k) f v) T.length) T.length).1 ≠ 0) : XW M_X1_read (d + 80) 73 [(4, .int (nI ts.length)), (3, .ref A), (2, .ref C), (1, .ref D), (0, .ref x)] [] g (xRdR g0 x tb p rr ch (hindT (fun f v => allK (fun k => tOK (uT T) (3 * k) f v) T.length) T.length)) := by
  have hlr := hM.P.lr
  have p0 := hM.P.p0
  have nC : xown g C ≠ 1000 * p + 10 + rr := by rw [hRu.2.1]; omega
  have tts : ∀ j, j < ts.length → xTe g (ts.getD j 0) (uT T) (3 * j) := fun j hj => hT.te hTo hj
  have HA : xAd15 g C (1000 * p + 10 + rr) tlC taC A [] ts := ⟨hRu.2.2.2, hRu.1.2.2.2.2.2.2.2.1, nC, by omega, hRu.1.2.2.2.2.2.2.2.2.1, ⟨fun j hj => ⟨(tts j hj).1, (tts j hj).2.1⟩, fun j hj => (tts j hj).2.2.1⟩, ⟨a1, by rw [a2]; omega, a3, a4⟩, by simp, by rw [hT.1]; omega⟩
  have eW := adW_s (g := g) (ts := []) (us := ts) (s := sN) (r := rr) (u := uT T) hRu.1.2.2.2.2.2.2.2.2.2.1 tts
  rw [show ([] : List Nat).length = 0 from rfl, FAc_0, Nat.zero_add, hT.1] at eW
  refine xw_aload_n (pc := 73) dX1_read_73 4 rfl ?_
  refine xw_aload_n (pc := 74) dX1_read_74 4 rfl ?_
  refine xw_aload_n (pc := 75) dX1_read_75 2 rfl ?_
  refine xw_aload_n (pc := 76) dX1_read_76 1 rfl ?_
  refine xw_callA (pc := 77) (xr_V (as := [_, _]) ok_X1_adds rfl (by decide) q1418 q1420 qs23 (by first | (rw [tx77]; rfl) | (rw [hM.tx]; rfl)) (by first | (rw [tx77]; rfl) | (rw [hM.tx]; rfl)) dX1_read_77 rfl rfl (Nat.le_of_ble_eq_true rfl)) (SP_X1_adds15 (d := d + 59) (x := x) HA (by rw [hRu.2.1]; omega)) ?_
  intro a77 g77 hc77 hm77
  obtain ⟨hw0, ⟨arr', hAL, hLE⟩, F77⟩ := hc77
  have hw9 : xWy g77 a77 (hindT (fun f v => allK (fun k => tOK (uT T) (3 * k) f v) T.length) T.length) := hw0.congr eW
  have nx : ¬ (fun c => c = 1000 * p + 10 + rr ∨ c = 5) (xown g x) := by rw [hM.ox]; dsimp only; omega
  have hxl : x < xsz g := xlt (by rw [hM.tx]; decide)
  have tx77 : xtag g77 x = 1 := (F77.tag hxl).trans hM.tx
  have FF : xFr (oRf p rr) (N0 + 16000) g0 g77 := F0.tr (F77.sub (m := 16000) (O' := oRf p rr) (fun o h1 => by unfold oRf; omega) (Nat.le_refl _))
  have exi : ∀ j, xi g77 x j = xi g0 x j := fun j => (F77.i' hxl nx).trans (hxi j)
  have exr : ∀ j, xr g77 x j = xr g0 x j := fun j => (F77.r' hxl nx).trans (hxr j)
  refine xw_call (pc := 80) (xr_V (as := [_]) ok_X1_refuse rfl (by decide) q1302 q1304 qs22 (by first | (rw [tx77]; rfl) | (rw [hM.tx]; rfl)) (by first | (rw [tx77]; rfl) | (rw [hM.tx]; rfl)) dX1_read_80 rfl rfl (Nat.le_of_ble_eq_true rfl)) (SP_X1_refuse_O (d := d + 73) (g0 := g77) hw9 hv tx77 ((F77.own hxl).trans hM.ox) (xFr.rf (O := oEq 5) (n := 0)) (by unfold oEq; omega) (E := fun _ => True) (fun _ _ => trivial)) ?_
  intro rs g80 hc80 hm80
  obtain ⟨q, rfl, q1, q2, F80, q4, q5, q60, q70, -⟩ := hc80
  have F9 : xFr (oRf p rr) (N0 + 16000 + (0 + 10)) g0 g80 := FF.tr (F80.sub (m := 0 + 10) (O' := oRf p rr) (fun o h1 => by unfold oEq at h1; unfold oRf; omega) (Nat.le_refl _))
  have q6 : ∀ j, j ≠ 4 → j ≠ 5 → xi g80 x j = xi g0 x j := fun j h4 h5 => (q60 j h4 h5).trans (exi j)
  have q7 : ∀ j, xr g80 x j = xr g0 x j := fun j => (q70 j).trans (exr j)
  have hB9 := (hB.fr F77 (by omega)).fr F80 (by unfold oEq; omega)
  refine xx_catchAny [(0, 108, 119, 511)] (0, 108, 136, 0) [(119, 138, 136, 0)] rfl (by rw [q1]; exact rdNot3) (covAll (by decide) (by decide)) rfl (by rw [q1]; decide) (by rw [q1]; decide) (by rw [q2]; decide) ?_
  refine xw_pick (pc := 136) (l' := [(0, _)]) [4] rfl ?_
  have tx9 : xtag g80 x = 1 := (F9.tag hxl0).trans tx0
  have ox9 : xown g80 x = 1 := (F9.own hxl0).trans ox0
  refine (rd_136 (d := d) tx9 ox9 ((q7 8).trans h80) hB9 (by omega) (q := q) (by rw [q1]; decide) (by rw [q1]; decide) q2).mono (fun rs g' hp _ => ?_)
  obtain ⟨rfl, p1, p2⟩ := hp
  have hql : q < xsz g80 := xlt (by rw [q1]; decide)
  have hxl9 : x < xsz g80 := F9.lt hxl0
  have nx9 : ¬ oEq 11 (xown g80 x) := by rw [ox9]; unfold oEq; omega
  exact ⟨q, rfl, (p2.tag hql).trans q1, (p2.own hql).trans q2, (p2.i' hxl9 nx9).trans q4, (p2.i' hxl9 nx9).trans q5, fun j h4 h5 => (p2.i' hxl9 nx9).trans (q6 j h4 h5), fun j => (p2.r' hxl9 nx9).trans (q7 j), p1, (F9.tr (p2.sub (m := 0) (O' := oRf p rr) (fun o h => by unfold oEq at h; unfold oRf; omega) (Nat.le_refl _))).sub (fun _ h => h) (by omega)⟩
def oRb : Nat → Prop := fun o => o = 5 ∨ o = 14 ∨ o = 15
theorem adE_fr {g g' : xG} (h : xE g' = xE g) (e : Option Nat) : adE g' e = adE g e := by
  unfold adE
  cases e with
  | none => rfl
  | some i => rw [h]
theorem rd_29 {d : Nat} {g g0 : xG} {N0 : Nat} {x p lk fa ka la n rr ww : Nat} {Z : xAd} {S : xMS} (hM : xMn g x p lk fa ka la Z S n rr ww) {dq da h : Nat} {ps : List Nat} (hPa : xr g x 2 = some dq ∧ xAD g 7 dq da h ps ∧ True ∧ ps.length ≤ 8) {tb ln : Nat} {ch : Nat → Nat} (h80 : xr g0 x 8 = some tb) (hB : xBd g 11 tb ln ch) (hln : ln ≤ 60) (tx0 : xtag g0 x = 1) (ox0 : xown g0 x = 1) (hxl0 : x < xsz g0) (hxi : ∀ j, xi g x j = xi g0 x j) (hxr : ∀ j, xr g x j = xr g0 x j) {D tl arr : Nat} {eff : Option Nat} {of sc rk f l : Int32} {ts : List Nat} (hD : xDr g D eff of sc rk f l tl arr ts) {sN : Nat → Int32} {C tlC taC : Nat} {T : List xT3} (hT : xTq g ts T) (hTo : tsOk T) (hTm : T.length ≤ 15) (hRu : xRu g sN rr C (1000 * p + 10 + rr) tlC taC [] ∧ xown g C = 1000 * p ∧ 4 ≤ xlen g taC ∧ (xtag g C = 6 ∨ xtag g C = 7)) (hW : WFru sN n rr) (s1 : sN 1 = nI (rr + 1)) (s2 : ∀ j, j < 391 → j ≠ 1 → (j < 23 + 20 * rr ∨ 43 + 20 * rr ≤ j) → sN j = S 1 j) (hr16 : rr < 16) (F0 : xFr (oRr p (xsz g0)) N0 g0 g) (hN0 : N0 ≤ 19000) (hv : (hindT (fun f v => allK (fun k => tOK (uT T) (3 * k) f v) T.length) T.length).1 = 0) : XW M_X1_read (d + 81) 29 [(1, .ref D), (0, .ref x)] [.ref C] g (xVal (.int (nI rr)) (xRdO g0 p dq da tb ch (S 1) ps (tsUp sN rr 0 (uT T) T.length) n (rr + 1) ww)) := by
  have hxl : x < xsz g := xlt (by rw [hM.tx]; decide)
  have hCl : C < xsz g := xlt (by rcases hRu.2.2.2 with z | z <;> rw [z] <;> decide)
  have hta : taC < xsz g := xlt (by rw [hRu.1.2.2.2.2.2.2.2.2.1.2.2.2.2.1]; decide)
  have hlT : ts.length = T.length := hT.1
  have hob : ∀ i, i < ts.length → 10 ≤ xtag g (ts.getD i 0) ∧ xtag g (ts.getD i 0) ≤ 13 := fun i hi => by
    have h9 := hT.2 i (by omega)
    omega
  have dT : xtag g D = 16 := hD.1
  have dF : xr g D 6 = some tl := hD.2.2.2.2.2.2.2.2.1
  refine xw_astore_n (l' := [(2, _), (1, _), (0, _)]) (pc := 29) dX1_read_29 rfl (by decide) rfl ?_
  refine xw_aload_n (pc := 30) dX1_read_30 1 rfl ?_
  refine xw_getS (b := tl) (pc := 31) fd_X1_506 dX1_read_31 (by first | assumption | (simp [-List.getD_eq_getElem?_getD, xE_setI, xsz_setI, xsl_setI, xtag_setI, xown_setI, xlen_setI, xE_setR, xsz_setR, xsl_setR, xtag_setR, xown_setR, xlen_setR, xE_setW, xsz_setW, xsl_setW, xtag_setW, xown_setW, xlen_setW, xi_setR, xi_setW, xr_setI, xr_setW, xww_setI, xww_setR, xi_setI, xr_setR, xww_setW, xE_new, xsz_new, xsl_new, dT, dF, xsub]; done) | (simp [-List.getD_eq_getElem?_getD, xE_setI, xsz_setI, xsl_setI, xtag_setI, xown_setI, xlen_setI, xE_setR, xsz_setR, xsl_setR, xtag_setR, xown_setR, xlen_setR, xE_setW, xsz_setW, xsl_setW, xtag_setW, xown_setW, xlen_setW, xi_setR, xi_setW, xr_setI, xr_setW, xww_setI, xww_setR, xi_setI, xr_setR, xww_setW, xE_new, xsz_new, xsl_new, dT, dF] <;> rfl)) (by simp [-List.getD_eq_getElem?_getD, xE_setI, xsz_setI, xsl_setI, xtag_setI, xown_setI, xlen_setI, xE_setR, xsz_setR, xsl_setR, xtag_setR, xown_setR, xlen_setR, xE_setW, xsz_setW, xsl_setW, xtag_setW, xown_setW, xlen_setW, xi_setR, xi_setW, xr_setI, xr_setW, xww_setI, xww_setR, xi_setI, xr_setR, xww_setW, xE_new, xsz_new, xsl_new, dT, dF]) ?_
  refine xw_callV (pc := 34) (xr_V (as := []) ok_J2_size rfl (by decide) q701 q702 q703 (by rw [hD.2.2.2.2.2.2.2.2.2.1]; rfl) (by rw [hD.2.2.2.2.2.2.2.2.2.1]; rfl) dX1_read_34 rfl rfl (Nat.le_of_ble_eq_true rfl)) (SP_J2_size (d := d + 80) hD.2.2.2.2.2.2.2.2.2) ?_
  refine xw_anew (q := 8) (n := ts.length) (pc := 37) 2 dX1_read_37 (by decide) (by decide) rfl q656 (by decide) (by first | decide | assumption | omega) rfl (by omega) ?_
  refine xw_at (a := (xsz g)) (by rfl) ?_
  refine xw_astore_n (l' := [(3, _), (2, _), (1, _), (0, _)]) (pc := 40) dX1_read_40 rfl (by decide) rfl ?_
  refine xw_iconst (v := nI 0) (pc := 41) dX1_read_41 rfl ?_
  refine xw_istore (l' := [(4, _), (3, _), (2, _), (1, _), (0, _)]) (pc := 42) dX1_read_42 (by decide) rfl ?_
  refine lp_X1_read (d := d + 1) (g := g) (A := xsz g) hD hob (by omega) (Nat.le_refl _) (fun g' N b1 b2 b3 b4 FN hN => ?_) (ts.length + 1) 0 (0 + (ts.length + 1)) _ (by omega) (Nat.zero_le _) (xtag_newS rfl) (xown_newS rfl) (xlen_newS rfl) (fun i h => absurd h (Nat.not_lt_zero i)) (xFr.rf (n := 0)).nw (by omega)
  have hM' := hM.frP FN (fun h => h) (fun h => h) (fun h => h) (hM.P.fr FN (fun o _ h => h) (fun h => h))
  exact re_73 (d := d + 1) (g0 := g0) hM' ⟨(FN.r' hxl (fun h => h)).trans hPa.1, hPa.2.1.fr FN (fun h => h), trivial, hPa.2.2.2⟩ h80 (hB.fr FN (fun h => h)) hln tx0 ox0 hxl0 (fun j => (FN.i' hxl (fun h => h)).trans (hxi j)) (fun j => (FN.r' hxl (fun h => h)).trans (hxr j)) (hT.fr FN (fun h => h)) hTo hTm ⟨hRu.1.fr (fun j h => absurd h (Nat.not_lt_zero j)) FN (fun h => h) (fun h => h) (fun h => h), (FN.own hCl).trans hRu.2.1, by rw [FN.len hta]; exact hRu.2.2.1, by rw [FN.tag hCl]; exact hRu.2.2.2⟩ hW s1 s2 hr16 b1 b2 b3 b4 ((F0.tr (FN.sub (m := N) (O' := oRr p (xsz g0)) (fun _ h => h.elim) (Nat.le_refl _))).sub (fun _ h => h) (Nat.le_refl _)) (by omega) hv
theorem rd_29_R {d : Nat} {g g0 : xG} {N0 : Nat} {x p lk fa ka la n rr ww : Nat} {Z : xAd} {S : xMS} (hM : xMn g x p lk fa ka la Z S n rr ww)  {tb ln : Nat} {ch : Nat → Nat} (h80 : xr g0 x 8 = some tb) (hB : xBd g 11 tb ln ch) (hln : ln ≤ 60) (tx0 : xtag g0 x = 1) (ox0 : xown g0 x = 1) (hxl0 : x < xsz g0) (hxi : ∀ j, xi g x j = xi g0 x j) (hxr : ∀ j, xr g x j = xr g0 x j) {D tl arr : Nat} {eff : Option Nat} {of sc rk f l : Int32} {ts : List Nat} (hD : xDr g D eff of sc rk f l tl arr ts) {sN : Nat → Int32} {C tlC taC : Nat} {T : List xT3} (hT : xTq g ts T) (hTo : tsOk T) (hTm : T.length ≤ 15) (hRu : xRu g sN rr C (1000 * p + 10 + rr) tlC taC [] ∧ xown g C = 1000 * p ∧ 4 ≤ xlen g taC ∧ (xtag g C = 6 ∨ xtag g C = 7)) (hW : WFru sN n rr) (s1 : sN 1 = nI (rr + 1)) (s2 : ∀ j, j < 391 → j ≠ 1 → (j < 23 + 20 * rr ∨ 43 + 20 * rr ≤ j) → sN j = S 1 j) (hr16 : rr < 16) (F0 : xFr (oRf p rr) N0 g0 g) (hN0 : N0 ≤ 19000) (hv : (hindT (fun f v => allK (fun k => tOK (uT T) (3 * k) f v) T.length) T.length).1 ≠ 0) : XW M_X1_read (d + 81) 29 [(1, .ref D), (0, .ref x)] [.ref C] g (xRdR g0 x tb p rr ch (hindT (fun f v => allK (fun k => tOK (uT T) (3 * k) f v) T.length) T.length)) := by
  have hxl : x < xsz g := xlt (by rw [hM.tx]; decide)
  have hCl : C < xsz g := xlt (by rcases hRu.2.2.2 with z | z <;> rw [z] <;> decide)
  have hta : taC < xsz g := xlt (by rw [hRu.1.2.2.2.2.2.2.2.2.1.2.2.2.2.1]; decide)
  have hlT : ts.length = T.length := hT.1
  have hob : ∀ i, i < ts.length → 10 ≤ xtag g (ts.getD i 0) ∧ xtag g (ts.getD i 0) ≤ 13 := fun i hi => by
    have h9 := hT.2 i (by omega)
    omega
  have dT : xtag g D = 16 := hD.1
  have dF : xr g D 6 = some tl := hD.2.2.2.2.2.2.2.2.1
  refine xw_astore_n (l' := [(2, _), (1, _), (0, _)]) (pc := 29) dX1_read_29 rfl (by decide) rfl ?_
  refine xw_aload_n (pc := 30) dX1_read_30 1 rfl ?_
  refine xw_getS (b := tl) (pc := 31) fd_X1_506 dX1_read_31 (by first | assumption | (simp [-List.getD_eq_getElem?_getD, xE_setI, xsz_setI, xsl_setI, xtag_setI, xown_setI, xlen_setI, xE_setR, xsz_setR, xsl_setR, xtag_setR, xown_setR, xlen_setR, xE_setW, xsz_setW, xsl_setW, xtag_setW, xown_setW, xlen_setW, xi_setR, xi_setW, xr_setI, xr_setW, xww_setI, xww_setR, xi_setI, xr_setR, xww_setW, xE_new, xsz_new, xsl_new, dT, dF, xsub]; done) | (simp [-List.getD_eq_getElem?_getD, xE_setI, xsz_setI, xsl_setI, xtag_setI, xown_setI, xlen_setI, xE_setR, xsz_setR, xsl_setR, xtag_setR, xown_setR, xlen_setR, xE_setW, xsz_setW, xsl_setW, xtag_setW, xown_setW, xlen_setW, xi_setR, xi_setW, xr_setI, xr_setW, xww_setI, xww_setR, xi_setI, xr_setR, xww_setW, xE_new, xsz_new, xsl_new, dT, dF] <;> rfl)) (by simp [-List.getD_eq_getElem?_getD, xE_setI, xsz_setI, xsl_setI, xtag_setI, xown_setI, xlen_setI, xE_setR, xsz_setR, xsl_setR, xtag_setR, xown_setR, xlen_setR, xE_setW, xsz_setW, xsl_setW, xtag_setW, xown_setW, xlen_setW, xi_setR, xi_setW, xr_setI, xr_setW, xww_setI, xww_setR, xi_setI, xr_setR, xww_setW, xE_new, xsz_new, xsl_new, dT, dF]) ?_
  refine xw_callV (pc := 34) (xr_V (as := []) ok_J2_size rfl (by decide) q701 q702 q703 (by rw [hD.2.2.2.2.2.2.2.2.2.1]; rfl) (by rw [hD.2.2.2.2.2.2.2.2.2.1]; rfl) dX1_read_34 rfl rfl (Nat.le_of_ble_eq_true rfl)) (SP_J2_size (d := d + 80) hD.2.2.2.2.2.2.2.2.2) ?_
  refine xw_anew (q := 8) (n := ts.length) (pc := 37) 2 dX1_read_37 (by decide) (by decide) rfl q656 (by decide) (by first | decide | assumption | omega) rfl (by omega) ?_
  refine xw_at (a := (xsz g)) (by rfl) ?_
  refine xw_astore_n (l' := [(3, _), (2, _), (1, _), (0, _)]) (pc := 40) dX1_read_40 rfl (by decide) rfl ?_
  refine xw_iconst (v := nI 0) (pc := 41) dX1_read_41 rfl ?_
  refine xw_istore (l' := [(4, _), (3, _), (2, _), (1, _), (0, _)]) (pc := 42) dX1_read_42 (by decide) rfl ?_
  refine lp_X1_read (d := d + 1) (g := g) (A := xsz g) hD hob (by omega) (Nat.le_refl _) (fun g' N b1 b2 b3 b4 FN hN => ?_) (ts.length + 1) 0 (0 + (ts.length + 1)) _ (by omega) (Nat.zero_le _) (xtag_newS rfl) (xown_newS rfl) (xlen_newS rfl) (fun i h => absurd h (Nat.not_lt_zero i)) (xFr.rf (n := 0)).nw (by omega)
  have hM' := hM.frP FN (fun h => h) (fun h => h) (fun h => h) (hM.P.fr FN (fun o _ h => h) (fun h => h))
  exact re_73_R (d := d + 1) (g0 := g0) hM' h80 (hB.fr FN (fun h => h)) hln tx0 ox0 hxl0 (fun j => (FN.i' hxl (fun h => h)).trans (hxi j)) (fun j => (FN.r' hxl (fun h => h)).trans (hxr j)) (hT.fr FN (fun h => h)) hTo hTm ⟨hRu.1.fr (fun j h => absurd h (Nat.not_lt_zero j)) FN (fun h => h) (fun h => h) (fun h => h), (FN.own hCl).trans hRu.2.1, by rw [FN.len hta]; exact hRu.2.2.1, by rw [FN.tag hCl]; exact hRu.2.2.2⟩ hW s1 s2 hr16 b1 b2 b3 b4 ((F0.tr (FN.sub (m := N) (O' := oRf p rr) (fun _ h => h.elim) (Nat.le_refl _))).sub (fun _ h => h) (Nat.le_refl _)) (by omega) hv
theorem rd_24 {d : Nat} {g g0 : xG} {N0 : Nat} {x p lk fa ka la n rr ww : Nat} {Z : xAd} {S : xMS} (hM : xMn g x p lk fa ka la Z S n rr ww) {dq da h : Nat} {ps : List Nat} (hPa : xr g x 2 = some dq ∧ xAD g 7 dq da h ps ∧ True ∧ ps.length ≤ 8) {tb ln : Nat} {ch : Nat → Nat} (h80 : xr g0 x 8 = some tb) (hB : xBd g 11 tb ln ch) (hln : ln ≤ 60) (tx0 : xtag g0 x = 1) (ox0 : xown g0 x = 1) (hxl0 : x < xsz g0) (hxi : ∀ j, xi g x j = xi g0 x j) (hxr : ∀ j, xr g x j = xr g0 x j) {D tl arr s k f l : Nat} {e o : Option Nat} {ts : List Nat} {T : List xT3} (hD : xDr g D (adE g e) (ofV o) (nI s) (nI k) (nI f) (nI l) tl arr ts) (hT : xTq g ts T) (hTo : tsOk T) (hTm : T.length ≤ 15) (heo : (∃ i, e = some i ∧ i < 3 ∧ o = none) ∨ (e = none ∧ ∃ v, o = some v ∧ v < 1000)) (hs : s < n) (hk : k < 10) (hf : f < 1000) (hl : l < 1000) (hr16 : rr < 16) (hh : (hindD (S 1) rr o s f l).1 = 0) (hv9 : ∀ v, o = some v → v < rr) (F0 : xFr oRb N0 g0 g) (hN0 : N0 ≤ 18900) (hv : (hindT (fun f v => allK (fun k => tOK (uT T) (3 * k) f v) T.length) T.length).1 = 0) : XW M_X1_read (d + 81) 24 [(1, .ref D), (0, .ref x)] [] g (xVal (.int (nI rr)) (xRdO g0 p dq da tb ch (S 1) ps (tsUp (ruUp (S 1) rr (effV e) (ofV o) (nI s) (nI k) (nI f) (nI l)) rr 0 (uT T) T.length) n (rr + 1) ww)) := by
  have hxl : x < xsz g := xlt (by rw [hM.tx]; decide)
  have hDl : D < xsz g := xlt (by rw [hD.1]; decide)
  have p0 := hM.P.p0
  refine xw_aload_n (pc := 24) dX1_read_24 1 rfl ?_
  refine xw_aload_n (pc := 25) dX1_read_25 0 rfl ?_
  refine xw_callV (pc := 26) (xr_V (as := [_]) ok_X1_made rfl (by decide) q2075 q2077 qs43 (by first | (rw [hM9.tx]; rfl) | (rw [hM.tx]; rfl)) (by first | (rw [hM9.tx]; rfl) | (rw [hM.tx]; rfl)) dX1_read_26 rfl rfl (Nat.le_of_ble_eq_true rfl)) (SP_X1_made_D (d := d) (o1 := 1000 * p) (o2 := 1000 * p + 10 + rr) hM (by omega) (by omega) hD hv9) ?_
  generalize hgM : (xMade g (1000 * p) (1000 * p + 10 + rr) Z rr (adE g e) o (nI s) (nI k) (nI f) (nI l)) = gM
  have FM : xFr oNo 19 g gM := hgM ▸ (xMade.fr (xFr.rf (n := 0))).sub (fun _ h => h) (by omega)
  have hRU := xMade_ru hM heo hs hk hf hl hr16 hh hv9 hgM.symm
  have hM' := hM.frP FM (fun h => h) (fun h => h) (fun h => h) (hM.P.fr FM (fun o _ h => h) (fun h => h))
  exact rd_29 (d := d) (g0 := g0) hM' ⟨(FM.r' hxl (fun h => h)).trans hPa.1, hPa.2.1.fr FM (fun h => h), trivial, hPa.2.2.2⟩ h80 (hB.fr FM (fun h => h)) hln tx0 ox0 hxl0 (fun j => (FM.i' hxl (fun h => h)).trans (hxi j)) (fun j => (FM.r' hxl (fun h => h)).trans (hxr j)) (hD.fr FM (FM.c hDl (fun h => h)) (fun h => h)) (hT.fr FM (fun h => h)) hTo hTm hRU.1 hRU.2 ruUp_1 (fun j _ h2 h3 => ruUp_o h2 h3) hr16 (((F0.sub (O' := oRr p (xsz g0)) (fun o h => by unfold oRb at h; unfold oRr; omega) (Nat.le_refl _)).tr (FM.sub (m := 19) (O' := oRr p (xsz g0)) (fun _ h => h.elim) (Nat.le_refl _))).sub (fun _ h => h) (Nat.le_refl _)) (by omega) hv
theorem rd_24_R {d : Nat} {g g0 : xG} {N0 : Nat} {x p lk fa ka la n rr ww : Nat} {Z : xAd} {S : xMS} (hM : xMn g x p lk fa ka la Z S n rr ww)  {tb ln : Nat} {ch : Nat → Nat} (h80 : xr g0 x 8 = some tb) (hB : xBd g 11 tb ln ch) (hln : ln ≤ 60) (tx0 : xtag g0 x = 1) (ox0 : xown g0 x = 1) (hxl0 : x < xsz g0) (hxi : ∀ j, xi g x j = xi g0 x j) (hxr : ∀ j, xr g x j = xr g0 x j) {D tl arr s k f l : Nat} {e o : Option Nat} {ts : List Nat} {T : List xT3} (hD : xDr g D (adE g e) (ofV o) (nI s) (nI k) (nI f) (nI l) tl arr ts) (hT : xTq g ts T) (hTo : tsOk T) (hTm : T.length ≤ 15) (heo : (∃ i, e = some i ∧ i < 3 ∧ o = none) ∨ (e = none ∧ ∃ v, o = some v ∧ v < 1000)) (hs : s < n) (hk : k < 10) (hf : f < 1000) (hl : l < 1000) (hr16 : rr < 16) (hh : (hindD (S 1) rr o s f l).1 = 0) (hv9 : ∀ v, o = some v → v < rr) (F0 : xFr oRb N0 g0 g) (hN0 : N0 ≤ 18900) (hv : (hindT (fun f v => allK (fun k => tOK (uT T) (3 * k) f v) T.length) T.length).1 ≠ 0) : XW M_X1_read (d + 81) 24 [(1, .ref D), (0, .ref x)] [] g (xRdR g0 x tb p rr ch (hindT (fun f v => allK (fun k => tOK (uT T) (3 * k) f v) T.length) T.length)) := by
  have hxl : x < xsz g := xlt (by rw [hM.tx]; decide)
  have hDl : D < xsz g := xlt (by rw [hD.1]; decide)
  have p0 := hM.P.p0
  refine xw_aload_n (pc := 24) dX1_read_24 1 rfl ?_
  refine xw_aload_n (pc := 25) dX1_read_25 0 rfl ?_
  refine xw_callV (pc := 26) (xr_V (as := [_]) ok_X1_made rfl (by decide) q2075 q2077 qs43 (by first | (rw [hM9.tx]; rfl) | (rw [hM.tx]; rfl)) (by first | (rw [hM9.tx]; rfl) | (rw [hM.tx]; rfl)) dX1_read_26 rfl rfl (Nat.le_of_ble_eq_true rfl)) (SP_X1_made_D (d := d) (o1 := 1000 * p) (o2 := 1000 * p + 10 + rr) hM (by omega) (by omega) hD hv9) ?_
  generalize hgM : (xMade g (1000 * p) (1000 * p + 10 + rr) Z rr (adE g e) o (nI s) (nI k) (nI f) (nI l)) = gM
  have FM : xFr oNo 19 g gM := hgM ▸ (xMade.fr (xFr.rf (n := 0))).sub (fun _ h => h) (by omega)
  have hRU := xMade_ru hM heo hs hk hf hl hr16 hh hv9 hgM.symm
  have hM' := hM.frP FM (fun h => h) (fun h => h) (fun h => h) (hM.P.fr FM (fun o _ h => h) (fun h => h))
  exact rd_29_R (d := d) (g0 := g0) hM' h80 (hB.fr FM (fun h => h)) hln tx0 ox0 hxl0 (fun j => (FM.i' hxl (fun h => h)).trans (hxi j)) (fun j => (FM.r' hxl (fun h => h)).trans (hxr j)) (hD.fr FM (FM.c hDl (fun h => h)) (fun h => h)) (hT.fr FM (fun h => h)) hTo hTm hRU.1 hRU.2 ruUp_1 (fun j _ h2 h3 => ruUp_o h2 h3) hr16 (((F0.sub (O' := oRf p rr) (fun o h => by unfold oRb at h; unfold oRf; omega) (Nat.le_refl _)).tr (FM.sub (m := 19) (O' := oRf p rr) (fun _ h => h.elim) (Nat.le_refl _))).sub (fun _ h => h) (Nat.le_refl _)) (by omega) hv
theorem wBb_0 {s : Nat → Int32} {n rr sc f l : Nat} {o : Option Nat} (hsc : sc < 1000) (n0 : 0 < n) (hn : n < 1000) (h : (wBb s n rr o sc f l).1 = 0) : (∀ v, o = some v → v < rr) ∧ sc < n ∧ (hindD s rr o sc f l).1 = 0 := by
  have h1 : ∀ v, o = some v → v < rr := fun v hv => by
    apply Decidable.byContradiction
    intro h9
    rw [hv, wBb_P h9] at h
    exact absurd h (by simp)
  have h2 : inR (nI sc) (nI 0) (nI n - nI 1) = true := by
    cases hb : inR (nI sc) (nI 0) (nI n - nI 1)
    · rw [wBb_S h1 hb] at h
      exact absurd h (by simp)
    · rfl
  rw [wBb_H h1 h2] at h
  exact ⟨h1, inR_lt h2 hsc n0 hn, h⟩
theorem rd_14 {d : Nat} {g g0 : xG} {N0 : Nat} {x p lk fa ka la n rr ww : Nat} {Z : xAd} {S : xMS} (hM : xMn g x p lk fa ka la Z S n rr ww) {dq da h : Nat} {ps : List Nat} (hPa : xr g x 2 = some dq ∧ xAD g 7 dq da h ps ∧ True ∧ ps.length ≤ 8) {tb ln : Nat} {ch : Nat → Nat} (h80 : xr g0 x 8 = some tb) (hB : xBd g 11 tb ln ch) (hln : ln ≤ 60) (tx0 : xtag g0 x = 1) (ox0 : xown g0 x = 1) (hxl0 : x < xsz g0) (hxi : ∀ j, xi g x j = xi g0 x j) (hxr : ∀ j, xr g x j = xr g0 x j) {D tl arr s k f l : Nat} {e o : Option Nat} {ts : List Nat} {T : List xT3} (hD : xDr g D (adE g e) (ofV o) (nI s) (nI k) (nI f) (nI l) tl arr ts) (hT : xTq g ts T) (hTo : tsOk T) (hTm : T.length ≤ 15) (heo : (∃ i, e = some i ∧ i < 3 ∧ o = none) ∨ (e = none ∧ ∃ v, o = some v ∧ v < 1000)) (hs : s < 10) (hk : k < 10) (hf : f < 1000) (hl : l < 1000) (F0 : xFr oRb N0 g0 g) (hN0 : N0 ≤ 18800) (hb : (wBb (S 1) n rr o s f l).1 = 0) (hv : (hindT (fun f v => allK (fun k => tOK (uT T) (3 * k) f v) T.length) T.length).1 = 0) : XW M_X1_read (d + 81) 14 [(0, .ref x)] [.ref D] g (xVal (.int (nI rr)) (xRdO g0 p dq da tb ch (S 1) ps (tsUp (ruUp (S 1) rr (effV e) (ofV o) (nI s) (nI k) (nI f) (nI l)) rr 0 (uT T) T.length) n (rr + 1) ww)) := by
  have hxl : x < xsz g := xlt (by rw [hM.tx]; decide)
  have hDl : D < xsz g := xlt (by rw [hD.1]; decide)
  have p0 := hM.P.p0
  have n10 := hM.P.wf.n10
  have n0 := hM.P.wf.n0
  have r16 := hM.P.wf.r16
  have nx : ¬ oEq 5 (xown g x) := by rw [hM.ox]; unfold oEq; omega
  have ho : ∀ v, o = some v → v < 1000 := fun v hv => by
    rcases heo with ⟨i, _, _, h⟩ | ⟨_, w, h, hw⟩
    · rw [h] at hv; cases hv
    · rw [h] at hv; injection hv with hv; omega
  refine xw_astore_n (l' := [(1, _), (0, _)]) (pc := 14) dX1_read_14 rfl (by decide) rfl ?_
  refine xw_aload_n (pc := 15) dX1_read_15 1 rfl ?_
  refine xw_aload_n (pc := 16) dX1_read_16 1 rfl ?_
  refine xw_aload_n (pc := 17) dX1_read_17 0 rfl ?_
  refine xw_callF (pc := 18) (xr_V (as := [_]) ok_X1_bars rfl (by decide) q2070 q2072 qs42 (by first | (rw [tx18]; rfl) | (rw [hM.tx]; rfl)) (by first | (rw [tx18]; rfl) | (rw [hM.tx]; rfl)) dX1_read_18 rfl rfl (Nat.le_of_ble_eq_true rfl)) (SP_X1_bars_D (d := d) hM hD (by omega) hf hl ho) ?_
  intro g18 hc18 hm18
  obtain ⟨hw18, F18⟩ := hc18
  have tx18 : xtag g18 x = 1 := (F18.tag hxl).trans hM.tx
  refine xw_callU (pc := 21) (xr_V (as := [_]) ok_X1_refuse rfl (by decide) q1302 q1304 qs22 (by first | (rw [tx18]; rfl) | (rw [hM.tx]; rfl)) (by first | (rw [tx18]; rfl) | (rw [hM.tx]; rfl)) dX1_read_21 rfl rfl (Nat.le_of_ble_eq_true rfl)) (SP_X1_refuse_N hw18 hb) ?_
  have hb3 := wBb_0 (by omega) n0 (by omega) hb
  have hM' := hM.frP F18 (by unfold oEq; omega) (by unfold oEq; omega) (by unfold oEq; omega) (hM.P.fr F18 (fun o h1 h2 => by unfold oP at h1; unfold oEq at h2; omega) (by unfold oEq; omega))
  have hD' := hD.fr F18 (F18.c hDl (by rw [hD.2.1]; unfold oEq; omega)) (by unfold oEq; omega)
  rw [← adE_fr F18.e e] at hD'
  exact rd_24 (d := d) (g0 := g0) hM' ⟨(F18.r' hxl nx).trans hPa.1, hPa.2.1.fr F18 (by unfold oEq; omega), trivial, hPa.2.2.2⟩ h80 (hB.fr F18 (by unfold oEq; omega)) hln tx0 ox0 hxl0 (fun j => (F18.i' hxl nx).trans (hxi j)) (fun j => (F18.r' hxl nx).trans (hxr j)) hD' (hT.fr F18 (by unfold oEq; omega)) hTo hTm heo hb3.2.1 hk hf hl (hindD_rr r16 hb3.2.2) hb3.2.2 hb3.1 (F0.tr (F18.sub (m := 60) (O' := oRb) (fun o h => by unfold oEq at h; unfold oRb; omega) (Nat.le_refl _))) (by omega) hv
theorem rd_14_R {d : Nat} {g g0 : xG} {N0 : Nat} {x p lk fa ka la n rr ww : Nat} {Z : xAd} {S : xMS} (hM : xMn g x p lk fa ka la Z S n rr ww)  {tb ln : Nat} {ch : Nat → Nat} (h80 : xr g0 x 8 = some tb) (hB : xBd g 11 tb ln ch) (hln : ln ≤ 60) (tx0 : xtag g0 x = 1) (ox0 : xown g0 x = 1) (hxl0 : x < xsz g0) (hxi : ∀ j, xi g x j = xi g0 x j) (hxr : ∀ j, xr g x j = xr g0 x j) {D tl arr s k f l : Nat} {e o : Option Nat} {ts : List Nat} {T : List xT3} (hD : xDr g D (adE g e) (ofV o) (nI s) (nI k) (nI f) (nI l) tl arr ts) (hT : xTq g ts T) (hTo : tsOk T) (hTm : T.length ≤ 15) (heo : (∃ i, e = some i ∧ i < 3 ∧ o = none) ∨ (e = none ∧ ∃ v, o = some v ∧ v < 1000)) (hs : s < 10) (hk : k < 10) (hf : f < 1000) (hl : l < 1000) (F0 : xFr oRb N0 g0 g) (hN0 : N0 ≤ 18800) (hb : (wBb (S 1) n rr o s f l).1 = 0) (hv : (hindT (fun f v => allK (fun k => tOK (uT T) (3 * k) f v) T.length) T.length).1 ≠ 0) : XW M_X1_read (d + 81) 14 [(0, .ref x)] [.ref D] g (xRdR g0 x tb p rr ch (hindT (fun f v => allK (fun k => tOK (uT T) (3 * k) f v) T.length) T.length)) := by
  have hxl : x < xsz g := xlt (by rw [hM.tx]; decide)
  have hDl : D < xsz g := xlt (by rw [hD.1]; decide)
  have p0 := hM.P.p0
  have n10 := hM.P.wf.n10
  have n0 := hM.P.wf.n0
  have r16 := hM.P.wf.r16
  have nx : ¬ oEq 5 (xown g x) := by rw [hM.ox]; unfold oEq; omega
  have ho : ∀ v, o = some v → v < 1000 := fun v hv => by
    rcases heo with ⟨i, _, _, h⟩ | ⟨_, w, h, hw⟩
    · rw [h] at hv; cases hv
    · rw [h] at hv; injection hv with hv; omega
  refine xw_astore_n (l' := [(1, _), (0, _)]) (pc := 14) dX1_read_14 rfl (by decide) rfl ?_
  refine xw_aload_n (pc := 15) dX1_read_15 1 rfl ?_
  refine xw_aload_n (pc := 16) dX1_read_16 1 rfl ?_
  refine xw_aload_n (pc := 17) dX1_read_17 0 rfl ?_
  refine xw_callF (pc := 18) (xr_V (as := [_]) ok_X1_bars rfl (by decide) q2070 q2072 qs42 (by first | (rw [tx18]; rfl) | (rw [hM.tx]; rfl)) (by first | (rw [tx18]; rfl) | (rw [hM.tx]; rfl)) dX1_read_18 rfl rfl (Nat.le_of_ble_eq_true rfl)) (SP_X1_bars_D (d := d) hM hD (by omega) hf hl ho) ?_
  intro g18 hc18 hm18
  obtain ⟨hw18, F18⟩ := hc18
  have tx18 : xtag g18 x = 1 := (F18.tag hxl).trans hM.tx
  refine xw_callU (pc := 21) (xr_V (as := [_]) ok_X1_refuse rfl (by decide) q1302 q1304 qs22 (by first | (rw [tx18]; rfl) | (rw [hM.tx]; rfl)) (by first | (rw [tx18]; rfl) | (rw [hM.tx]; rfl)) dX1_read_21 rfl rfl (Nat.le_of_ble_eq_true rfl)) (SP_X1_refuse_N hw18 hb) ?_
  have hb3 := wBb_0 (by omega) n0 (by omega) hb
  have hM' := hM.frP F18 (by unfold oEq; omega) (by unfold oEq; omega) (by unfold oEq; omega) (hM.P.fr F18 (fun o h1 h2 => by unfold oP at h1; unfold oEq at h2; omega) (by unfold oEq; omega))
  have hD' := hD.fr F18 (F18.c hDl (by rw [hD.2.1]; unfold oEq; omega)) (by unfold oEq; omega)
  rw [← adE_fr F18.e e] at hD'
  exact rd_24_R (d := d) (g0 := g0) hM' h80 (hB.fr F18 (by unfold oEq; omega)) hln tx0 ox0 hxl0 (fun j => (F18.i' hxl nx).trans (hxi j)) (fun j => (F18.r' hxl nx).trans (hxr j)) hD' (hT.fr F18 (by unfold oEq; omega)) hTo hTm heo hb3.2.1 hk hf hl (hindD_rr r16 hb3.2.2) hb3.2.2 hb3.1 (F0.tr (F18.sub (m := 60) (O' := oRb) (fun o h => by unfold oEq at h; unfold oRb; omega) (Nat.le_refl _))) (by omega) hv
theorem rd_14_B {d : Nat} {g g0 : xG} {N0 : Nat} {x p lk fa ka la n rr ww : Nat} {Z : xAd} {S : xMS} (hM : xMn g x p lk fa ka la Z S n rr ww)  {tb ln : Nat} {ch : Nat → Nat} (h80 : xr g0 x 8 = some tb) (hB : xBd g 11 tb ln ch) (hln : ln ≤ 60) (tx0 : xtag g0 x = 1) (ox0 : xown g0 x = 1) (hxl0 : x < xsz g0) (hxi : ∀ j, xi g x j = xi g0 x j) (hxr : ∀ j, xr g x j = xr g0 x j) {D tl arr s k f l : Nat} {e o : Option Nat} {ts : List Nat} {T : List xT3} (hD : xDr g D (adE g e) (ofV o) (nI s) (nI k) (nI f) (nI l) tl arr ts) (hT : xTq g ts T) (hTo : tsOk T) (hTm : T.length ≤ 15) (heo : (∃ i, e = some i ∧ i < 3 ∧ o = none) ∨ (e = none ∧ ∃ v, o = some v ∧ v < 1000)) (hs : s < 10) (hk : k < 10) (hf : f < 1000) (hl : l < 1000) (F0 : xFr oRb N0 g0 g) (hN0 : N0 ≤ 18800) (hb : (wBb (S 1) n rr o s f l).1 ≠ 0) : XW M_X1_read (d + 81) 14 [(0, .ref x)] [.ref D] g (xRdR g0 x tb p rr ch (wBb (S 1) n rr o s f l)) := by
  have hxl : x < xsz g := xlt (by rw [hM.tx]; decide)
  have hDl : D < xsz g := xlt (by rw [hD.1]; decide)
  have p0 := hM.P.p0
  have n10 := hM.P.wf.n10
  have n0 := hM.P.wf.n0
  have r16 := hM.P.wf.r16
  have nx : ¬ oEq 5 (xown g x) := by rw [hM.ox]; unfold oEq; omega
  have ho : ∀ v, o = some v → v < 1000 := fun v hv => by
    rcases heo with ⟨i, _, _, h⟩ | ⟨_, w, h, hw⟩
    · rw [h] at hv; cases hv
    · rw [h] at hv; injection hv with hv; omega
  refine xw_astore_n (l' := [(1, _), (0, _)]) (pc := 14) dX1_read_14 rfl (by decide) rfl ?_
  refine xw_aload_n (pc := 15) dX1_read_15 1 rfl ?_
  refine xw_aload_n (pc := 16) dX1_read_16 1 rfl ?_
  refine xw_aload_n (pc := 17) dX1_read_17 0 rfl ?_
  refine xw_callF (pc := 18) (xr_V (as := [_]) ok_X1_bars rfl (by decide) q2070 q2072 qs42 (by first | (rw [tx18]; rfl) | (rw [hM.tx]; rfl)) (by first | (rw [tx18]; rfl) | (rw [hM.tx]; rfl)) dX1_read_18 rfl rfl (Nat.le_of_ble_eq_true rfl)) (SP_X1_bars_D (d := d) hM hD (by omega) hf hl ho) ?_
  intro g18 hc18 hm18
  obtain ⟨hw18, F18⟩ := hc18
  have tx18 : xtag g18 x = 1 := (F18.tag hxl).trans hM.tx
  refine xw_call (pc := 21) (xr_V (as := [_]) ok_X1_refuse rfl (by decide) q1302 q1304 qs22 (by first | (rw [tx18]; rfl) | (rw [hM.tx]; rfl)) (by first | (rw [tx18]; rfl) | (rw [hM.tx]; rfl)) dX1_read_21 rfl rfl (Nat.le_of_ble_eq_true rfl)) (SP_X1_refuse_Y (d := d + 74) hw18 hb hM.tx hM.ox F18 (by omega)) ?_
  intro rs g21 hc21 hm21
  obtain ⟨q, rfl, q1, q2, F21, q4, q5, q60, q70⟩ := hc21
  have F9 : xFr (oRf p rr) (N0 + 100) g0 g21 := (F0.sub (O' := oRf p rr) (fun o h => by unfold oRb at h; unfold oRf; omega) (Nat.le_refl _)).tr (F21.sub (m := 100) (O' := oRf p rr) (fun o h1 => by unfold oRf; omega) (Nat.le_refl _))
  have q6 : ∀ j, j ≠ 4 → j ≠ 5 → xi g21 x j = xi g0 x j := fun j h4 h5 => (q60 j h4 h5).trans (hxi j)
  have q7 : ∀ j, xr g21 x j = xr g0 x j := fun j => (q70 j).trans (hxr j)
  have hB9 := hB.fr F21 (by omega)
  refine xx_catchAny [(0, 108, 119, 511)] (0, 108, 136, 0) [(119, 138, 136, 0)] rfl (by rw [q1]; exact rdNot3) (covAll (by decide) (by decide)) rfl (by rw [q1]; decide) (by rw [q1]; decide) (by rw [q2]; decide) ?_
  refine xw_pick (pc := 136) (l' := [(0, _)]) [1] rfl ?_
  have tx9 : xtag g21 x = 1 := (F9.tag hxl0).trans tx0
  have ox9 : xown g21 x = 1 := (F9.own hxl0).trans ox0
  refine (rd_136 (d := d + 1) tx9 ox9 ((q7 8).trans h80) hB9 (by omega) (q := q) (by rw [q1]; decide) (by rw [q1]; decide) q2).mono (fun rs g' hp _ => ?_)
  obtain ⟨rfl, p1, p2⟩ := hp
  have hql : q < xsz g21 := xlt (by rw [q1]; decide)
  have hxl9 : x < xsz g21 := F9.lt hxl0
  have nx9 : ¬ oEq 11 (xown g21 x) := by rw [ox9]; unfold oEq; omega
  exact ⟨q, rfl, (p2.tag hql).trans q1, (p2.own hql).trans q2, (p2.i' hxl9 nx9).trans q4, (p2.i' hxl9 nx9).trans q5, fun j h4 h5 => (p2.i' hxl9 nx9).trans (q6 j h4 h5), fun j => (p2.r' hxl9 nx9).trans (q7 j), p1, (F9.tr (p2.sub (m := 0) (O' := oRf p rr) (fun o h => by unfold oEq at h; unfold oRf; omega) (Nat.le_refl _))).sub (fun _ h => h) (by omega)⟩
theorem X18_all_ok {d : Nat} {g : xG} {R D tb n : Nat} {ch : Nat → Nat} (hR : xRd g R D tb 0 n ch) (hSC : xSC g) (hcn : xCn g) {tl arr : Nat} (hD : xDr g D none (-1) (nI 0) (nI 0) (nI 0) (nI 999) tl arr []) {e o : Option Nat} {s f l k : Nat} {T : List xT3} (hA : rAll n ch = .ok (e, o, s, T, f, l, k)) : XM M_X18_all (d + 12) [.ref R] g (xVal (.ref D) (fun g' => ∃ ts arr, xDr g' D (adE g e) (ofV o) (nI s) (nI k) (nI f) (nI l) tl arr ts ∧ xTq g' ts T ∧ T.length ≤ 15 ∧ xFr o145 17300 g g')) :=
  (SP_X18_all hR hSC hcn hD).mono (fun rs g' hp _ => by rw [hA] at hp; exact hp)
theorem X18_all_er {d : Nat} {g : xG} {R D tb n : Nat} {ch : Nat → Nat} (hR : xRd g R D tb 0 n ch) (hSC : xSC g) (hcn : xCn g) {tl arr : Nat} (hD : xDr g D none (-1) (nI 0) (nI 0) (nI 0) (nI 999) tl arr []) {f : Nat} (hA : rAll n ch = .error f) : XM M_X18_all (d + 12) [.ref R] g (xWro g o145 17300 f) :=
  (SP_X18_all hR hSC hcn hD).mono (fun rs g' hp _ => by rw [hA] at hp; exact hp)
theorem SP_X1_read {d : Nat} {g : xG} {x p lk fa ka la n rr ww : Nat} {Z : xAd} {S : xMS} (hM : xMn g x p lk fa ka la Z S n rr ww) {dq da h : Nat} {ps : List Nat} (hPa : xr g x 2 = some dq ∧ xAD g 7 dq da h ps ∧ True ∧ ps.length ≤ 8) {tb ln : Nat} {ch : Nat → Nat} (h8 : xr g x 8 = some tb) (hB : xBd g 11 tb ln ch) (hln : ln ≤ 60) (hSC : xSC g) {s k f l : Nat} {e o : Option Nat} {T : List xT3} (hA : rAll ln ch = .ok (e, o, s, T, f, l, k)) (hb : (wBb (S 1) n rr o s f l).1 = 0) (hv : (hindT (fun f v => allK (fun k => tOK (uT T) (3 * k) f v) T.length) T.length).1 = 0) : XM M_X1_read (d + 81) [.ref x] g (xVal (.int (nI rr)) (xRdO g p dq da tb ch (S 1) ps (tsUp (ruUp (S 1) rr (effV e) (ofV o) (nI s) (nI k) (nI f) (nI l)) rr 0 (uT T) T.length) n (rr + 1) ww)) := by
  have hxl : x < xsz g := xlt (by rw [hM.tx]; decide)
  have p0 := hM.P.p0
  have FN : xFr o145 10 g (xNew g (xBlank 15 14 3) 3) := (xFr.rf (O := o145) (n := 0)).nw.sub (fun _ h => h) (by decide)
  have nx : ¬ o145 (xown g x) := by rw [hM.ox]; unfold o145; omega
  have txN : xtag (xNew g (xBlank 15 14 3) 3) x = 1 := (FN.tag hxl).trans hM.tx
  have h8N : xr (xNew g (xBlank 15 14 3) 3) x 8 = some tb := (FN.r' hxl nx).trans h8
  have hEN : xEmp (xNew g (xBlank 15 14 3) 3) := (hM.frP FN (by unfold o145; omega) (by unfold o145; omega) (by unfold o145; omega) (hM.P.fr FN (fun o h1 h2 => by unfold oP at h1; unfold o145 at h2; omega) (by unfold o145; omega))).em
  have tbN : xtag (xNew g (xBlank 15 14 3) 3) tb = 19 := (hB.fr FN (by unfold o145; omega)).tag
  refine xm_of (by decide +kernel) (Nat.le_of_ble_eq_true rfl) ?_
  show XW _ _ 0 [(0, _)] [] _ _
  refine xw_new (t := 15) (pc := 0) 14 dX1_read_0 rfl (by decide) (by first | decide | assumption | omega) q1838 q1839 q138 ?_
  refine xw_at (a := (xsz g)) (by rfl) ?_
  refine xw_dup (pc := 3) dX1_read_3 rfl ?_
  refine xw_aload_n (pc := 4) dX1_read_4 0 rfl ?_
  refine xw_getS (b := tb) (pc := 5) fd_X1_47 dX1_read_5 (by first | assumption | (simp [-List.getD_eq_getElem?_getD, xE_setI, xsz_setI, xsl_setI, xtag_setI, xown_setI, xlen_setI, xE_setR, xsz_setR, xsl_setR, xtag_setR, xown_setR, xlen_setR, xE_setW, xsz_setW, xsl_setW, xtag_setW, xown_setW, xlen_setW, xi_setR, xi_setW, xr_setI, xr_setW, xww_setI, xww_setR, xi_setI, xr_setR, xww_setW, xE_new, xsz_new, xsl_new, hM.tx, h8, txN, h8N, xsub]; done) | (simp [-List.getD_eq_getElem?_getD, xE_setI, xsz_setI, xsl_setI, xtag_setI, xown_setI, xlen_setI, xE_setR, xsz_setR, xsl_setR, xtag_setR, xown_setR, xlen_setR, xE_setW, xsz_setW, xsl_setW, xtag_setW, xown_setW, xlen_setW, xi_setR, xi_setW, xr_setI, xr_setW, xww_setI, xww_setR, xi_setI, xr_setR, xww_setW, xE_new, xsz_new, xsl_new, hM.tx, h8, txN, h8N] <;> rfl)) (by simp [-List.getD_eq_getElem?_getD, xE_setI, xsz_setI, xsl_setI, xtag_setI, xown_setI, xlen_setI, xE_setR, xsz_setR, xsl_setR, xtag_setR, xown_setR, xlen_setR, xE_setW, xsz_setW, xsl_setW, xtag_setW, xown_setW, xlen_setW, xi_setR, xi_setW, xr_setI, xr_setW, xww_setI, xww_setR, xi_setI, xr_setR, xww_setW, xE_new, xsz_new, xsl_new, hM.tx, h8, txN, h8N]) ?_
  refine xw_callH (pc := 8) (xr_I (as := [_]) ok_X18_init rfl (by decide) q1840 q1841 rfl rfl dX1_read_8 rfl rfl (Nat.le_of_ble_eq_true rfl)) (SP_X18_init (d := d + 75) (R := xsz g) (tb := tb) hEN (xtag_newS rfl) (xown_newS rfl) (xi_newS rfl) (hB.fr FN (by unfold o145; omega)) hln) ?_
  intro g8 hc8 hm8
  obtain ⟨D, tl, hR8, hD8, F80⟩ := hc8
  have F8 : xFr o145 30 g g8 := (FN.tr F80).sub (fun _ h => h) (by omega)
  have hM8 := hM.frP F8 (by unfold o145; omega) (by unfold o145; omega) (by unfold o145; omega) (hM.P.fr F8 (fun o h1 h2 => by unfold oP at h1; unfold o145 at h2; omega) (by unfold o145; omega))
  have hS8 := hSC.fr F8 (by unfold o145; omega)
  have tR8 : xtag g8 (xsz g) = 15 := hR8.1
  refine xw_callF (pc := 11) (xr_V (as := []) ok_X18_all rfl (by decide) q1896 q1897 q1898 (by first | (rw [tR8]; rfl) | (rw [xtag_newS rfl]; rfl)) (by first | (rw [tR8]; rfl) | (rw [xtag_newS rfl]; rfl)) dX1_read_11 rfl rfl (Nat.le_of_ble_eq_true rfl)) (X18_all_ok (d := d + 68) hR8 hS8 hM8.cn hD8 hA) ?_
  intro g11 hc11 hm11
  obtain ⟨ts, arr, hD11, hT11, hTm, F11⟩ := hc11
  have FF : xFr oRb 17330 g g11 := (F8.tr F11).sub (fun o h => by unfold o145 at h; unfold oRb; omega) (by omega)
  have nxb : ¬ oRb (xown g x) := by rw [hM.ox]; unfold oRb; omega
  have hM' := hM.frP FF (by unfold oRb; omega) (by unfold oRb; omega) (by unfold oRb; omega) (hM.P.fr FF (fun o h1 h2 => by unfold oP at h1; unfold oRb at h2; omega) (by unfold oRb; omega))
  rw [← adE_fr F11.e e] at hD11
  obtain ⟨z1, z2, z3, z4, z5, z6, z7⟩ := rAll_ok hln hA
  exact rd_14 (d := d) (g0 := g) hM' ⟨(FF.r' hxl nxb).trans hPa.1, hPa.2.1.fr FF (by unfold oRb; omega), trivial, hPa.2.2.2⟩ h8 (hB.fr FF (by unfold oRb; omega)) hln hM.tx hM.ox hxl (fun j => FF.i' hxl nxb) (fun j => FF.r' hxl nxb) hD11 hT11 z7 hTm z1 z2 z5 z3 z4 FF (by omega) hb hv

theorem SP_X1_read_R {d : Nat} {g : xG} {x p lk fa ka la n rr ww : Nat} {Z : xAd} {S : xMS} (hM : xMn g x p lk fa ka la Z S n rr ww)  {tb ln : Nat} {ch : Nat → Nat} (h8 : xr g x 8 = some tb) (hB : xBd g 11 tb ln ch) (hln : ln ≤ 60) (hSC : xSC g) {s k f l : Nat} {e o : Option Nat} {T : List xT3} (hA : rAll ln ch = .ok (e, o, s, T, f, l, k)) (hb : (wBb (S 1) n rr o s f l).1 = 0) (hv : (hindT (fun f v => allK (fun k => tOK (uT T) (3 * k) f v) T.length) T.length).1 ≠ 0) : XM M_X1_read (d + 81) [.ref x] g (xRdR g x tb p rr ch (hindT (fun f v => allK (fun k => tOK (uT T) (3 * k) f v) T.length) T.length)) := by
  have hxl : x < xsz g := xlt (by rw [hM.tx]; decide)
  have p0 := hM.P.p0
  have FN : xFr o145 10 g (xNew g (xBlank 15 14 3) 3) := (xFr.rf (O := o145) (n := 0)).nw.sub (fun _ h => h) (by decide)
  have nx : ¬ o145 (xown g x) := by rw [hM.ox]; unfold o145; omega
  have txN : xtag (xNew g (xBlank 15 14 3) 3) x = 1 := (FN.tag hxl).trans hM.tx
  have h8N : xr (xNew g (xBlank 15 14 3) 3) x 8 = some tb := (FN.r' hxl nx).trans h8
  have hEN : xEmp (xNew g (xBlank 15 14 3) 3) := (hM.frP FN (by unfold o145; omega) (by unfold o145; omega) (by unfold o145; omega) (hM.P.fr FN (fun o h1 h2 => by unfold oP at h1; unfold o145 at h2; omega) (by unfold o145; omega))).em
  have tbN : xtag (xNew g (xBlank 15 14 3) 3) tb = 19 := (hB.fr FN (by unfold o145; omega)).tag
  refine xm_of (by decide +kernel) (Nat.le_of_ble_eq_true rfl) ?_
  show XW _ _ 0 [(0, _)] [] _ _
  refine xw_new (t := 15) (pc := 0) 14 dX1_read_0 rfl (by decide) (by first | decide | assumption | omega) q1838 q1839 q138 ?_
  refine xw_at (a := (xsz g)) (by rfl) ?_
  refine xw_dup (pc := 3) dX1_read_3 rfl ?_
  refine xw_aload_n (pc := 4) dX1_read_4 0 rfl ?_
  refine xw_getS (b := tb) (pc := 5) fd_X1_47 dX1_read_5 (by first | assumption | (simp [-List.getD_eq_getElem?_getD, xE_setI, xsz_setI, xsl_setI, xtag_setI, xown_setI, xlen_setI, xE_setR, xsz_setR, xsl_setR, xtag_setR, xown_setR, xlen_setR, xE_setW, xsz_setW, xsl_setW, xtag_setW, xown_setW, xlen_setW, xi_setR, xi_setW, xr_setI, xr_setW, xww_setI, xww_setR, xi_setI, xr_setR, xww_setW, xE_new, xsz_new, xsl_new, hM.tx, h8, txN, h8N, xsub]; done) | (simp [-List.getD_eq_getElem?_getD, xE_setI, xsz_setI, xsl_setI, xtag_setI, xown_setI, xlen_setI, xE_setR, xsz_setR, xsl_setR, xtag_setR, xown_setR, xlen_setR, xE_setW, xsz_setW, xsl_setW, xtag_setW, xown_setW, xlen_setW, xi_setR, xi_setW, xr_setI, xr_setW, xww_setI, xww_setR, xi_setI, xr_setR, xww_setW, xE_new, xsz_new, xsl_new, hM.tx, h8, txN, h8N] <;> rfl)) (by simp [-List.getD_eq_getElem?_getD, xE_setI, xsz_setI, xsl_setI, xtag_setI, xown_setI, xlen_setI, xE_setR, xsz_setR, xsl_setR, xtag_setR, xown_setR, xlen_setR, xE_setW, xsz_setW, xsl_setW, xtag_setW, xown_setW, xlen_setW, xi_setR, xi_setW, xr_setI, xr_setW, xww_setI, xww_setR, xi_setI, xr_setR, xww_setW, xE_new, xsz_new, xsl_new, hM.tx, h8, txN, h8N]) ?_
  refine xw_callH (pc := 8) (xr_I (as := [_]) ok_X18_init rfl (by decide) q1840 q1841 rfl rfl dX1_read_8 rfl rfl (Nat.le_of_ble_eq_true rfl)) (SP_X18_init (d := d + 75) (R := xsz g) (tb := tb) hEN (xtag_newS rfl) (xown_newS rfl) (xi_newS rfl) (hB.fr FN (by unfold o145; omega)) hln) ?_
  intro g8 hc8 hm8
  obtain ⟨D, tl, hR8, hD8, F80⟩ := hc8
  have F8 : xFr o145 30 g g8 := (FN.tr F80).sub (fun _ h => h) (by omega)
  have hM8 := hM.frP F8 (by unfold o145; omega) (by unfold o145; omega) (by unfold o145; omega) (hM.P.fr F8 (fun o h1 h2 => by unfold oP at h1; unfold o145 at h2; omega) (by unfold o145; omega))
  have hS8 := hSC.fr F8 (by unfold o145; omega)
  have tR8 : xtag g8 (xsz g) = 15 := hR8.1
  refine xw_callF (pc := 11) (xr_V (as := []) ok_X18_all rfl (by decide) q1896 q1897 q1898 (by first | (rw [tR8]; rfl) | (rw [xtag_newS rfl]; rfl)) (by first | (rw [tR8]; rfl) | (rw [xtag_newS rfl]; rfl)) dX1_read_11 rfl rfl (Nat.le_of_ble_eq_true rfl)) (X18_all_ok (d := d + 68) hR8 hS8 hM8.cn hD8 hA) ?_
  intro g11 hc11 hm11
  obtain ⟨ts, arr, hD11, hT11, hTm, F11⟩ := hc11
  have FF : xFr oRb 17330 g g11 := (F8.tr F11).sub (fun o h => by unfold o145 at h; unfold oRb; omega) (by omega)
  have nxb : ¬ oRb (xown g x) := by rw [hM.ox]; unfold oRb; omega
  have hM' := hM.frP FF (by unfold oRb; omega) (by unfold oRb; omega) (by unfold oRb; omega) (hM.P.fr FF (fun o h1 h2 => by unfold oP at h1; unfold oRb at h2; omega) (by unfold oRb; omega))
  rw [← adE_fr F11.e e] at hD11
  obtain ⟨z1, z2, z3, z4, z5, z6, z7⟩ := rAll_ok hln hA
  exact rd_14_R (d := d) (g0 := g) hM' h8 (hB.fr FF (by unfold oRb; omega)) hln hM.tx hM.ox hxl (fun j => FF.i' hxl nxb) (fun j => FF.r' hxl nxb) hD11 hT11 z7 hTm z1 z2 z5 z3 z4 FF (by omega) hb hv

theorem SP_X1_read_B {d : Nat} {g : xG} {x p lk fa ka la n rr ww : Nat} {Z : xAd} {S : xMS} (hM : xMn g x p lk fa ka la Z S n rr ww)  {tb ln : Nat} {ch : Nat → Nat} (h8 : xr g x 8 = some tb) (hB : xBd g 11 tb ln ch) (hln : ln ≤ 60) (hSC : xSC g) {s k f l : Nat} {e o : Option Nat} {T : List xT3} (hA : rAll ln ch = .ok (e, o, s, T, f, l, k)) (hb : (wBb (S 1) n rr o s f l).1 ≠ 0) : XM M_X1_read (d + 81) [.ref x] g (xRdR g x tb p rr ch (wBb (S 1) n rr o s f l)) := by
  have hxl : x < xsz g := xlt (by rw [hM.tx]; decide)
  have p0 := hM.P.p0
  have FN : xFr o145 10 g (xNew g (xBlank 15 14 3) 3) := (xFr.rf (O := o145) (n := 0)).nw.sub (fun _ h => h) (by decide)
  have nx : ¬ o145 (xown g x) := by rw [hM.ox]; unfold o145; omega
  have txN : xtag (xNew g (xBlank 15 14 3) 3) x = 1 := (FN.tag hxl).trans hM.tx
  have h8N : xr (xNew g (xBlank 15 14 3) 3) x 8 = some tb := (FN.r' hxl nx).trans h8
  have hEN : xEmp (xNew g (xBlank 15 14 3) 3) := (hM.frP FN (by unfold o145; omega) (by unfold o145; omega) (by unfold o145; omega) (hM.P.fr FN (fun o h1 h2 => by unfold oP at h1; unfold o145 at h2; omega) (by unfold o145; omega))).em
  have tbN : xtag (xNew g (xBlank 15 14 3) 3) tb = 19 := (hB.fr FN (by unfold o145; omega)).tag
  refine xm_of (by decide +kernel) (Nat.le_of_ble_eq_true rfl) ?_
  show XW _ _ 0 [(0, _)] [] _ _
  refine xw_new (t := 15) (pc := 0) 14 dX1_read_0 rfl (by decide) (by first | decide | assumption | omega) q1838 q1839 q138 ?_
  refine xw_at (a := (xsz g)) (by rfl) ?_
  refine xw_dup (pc := 3) dX1_read_3 rfl ?_
  refine xw_aload_n (pc := 4) dX1_read_4 0 rfl ?_
  refine xw_getS (b := tb) (pc := 5) fd_X1_47 dX1_read_5 (by first | assumption | (simp [-List.getD_eq_getElem?_getD, xE_setI, xsz_setI, xsl_setI, xtag_setI, xown_setI, xlen_setI, xE_setR, xsz_setR, xsl_setR, xtag_setR, xown_setR, xlen_setR, xE_setW, xsz_setW, xsl_setW, xtag_setW, xown_setW, xlen_setW, xi_setR, xi_setW, xr_setI, xr_setW, xww_setI, xww_setR, xi_setI, xr_setR, xww_setW, xE_new, xsz_new, xsl_new, hM.tx, h8, txN, h8N, xsub]; done) | (simp [-List.getD_eq_getElem?_getD, xE_setI, xsz_setI, xsl_setI, xtag_setI, xown_setI, xlen_setI, xE_setR, xsz_setR, xsl_setR, xtag_setR, xown_setR, xlen_setR, xE_setW, xsz_setW, xsl_setW, xtag_setW, xown_setW, xlen_setW, xi_setR, xi_setW, xr_setI, xr_setW, xww_setI, xww_setR, xi_setI, xr_setR, xww_setW, xE_new, xsz_new, xsl_new, hM.tx, h8, txN, h8N] <;> rfl)) (by simp [-List.getD_eq_getElem?_getD, xE_setI, xsz_setI, xsl_setI, xtag_setI, xown_setI, xlen_setI, xE_setR, xsz_setR, xsl_setR, xtag_setR, xown_setR, xlen_setR, xE_setW, xsz_setW, xsl_setW, xtag_setW, xown_setW, xlen_setW, xi_setR, xi_setW, xr_setI, xr_setW, xww_setI, xww_setR, xi_setI, xr_setR, xww_setW, xE_new, xsz_new, xsl_new, hM.tx, h8, txN, h8N]) ?_
  refine xw_callH (pc := 8) (xr_I (as := [_]) ok_X18_init rfl (by decide) q1840 q1841 rfl rfl dX1_read_8 rfl rfl (Nat.le_of_ble_eq_true rfl)) (SP_X18_init (d := d + 75) (R := xsz g) (tb := tb) hEN (xtag_newS rfl) (xown_newS rfl) (xi_newS rfl) (hB.fr FN (by unfold o145; omega)) hln) ?_
  intro g8 hc8 hm8
  obtain ⟨D, tl, hR8, hD8, F80⟩ := hc8
  have F8 : xFr o145 30 g g8 := (FN.tr F80).sub (fun _ h => h) (by omega)
  have hM8 := hM.frP F8 (by unfold o145; omega) (by unfold o145; omega) (by unfold o145; omega) (hM.P.fr F8 (fun o h1 h2 => by unfold oP at h1; unfold o145 at h2; omega) (by unfold o145; omega))
  have hS8 := hSC.fr F8 (by unfold o145; omega)
  have tR8 : xtag g8 (xsz g) = 15 := hR8.1
  refine xw_callF (pc := 11) (xr_V (as := []) ok_X18_all rfl (by decide) q1896 q1897 q1898 (by first | (rw [tR8]; rfl) | (rw [xtag_newS rfl]; rfl)) (by first | (rw [tR8]; rfl) | (rw [xtag_newS rfl]; rfl)) dX1_read_11 rfl rfl (Nat.le_of_ble_eq_true rfl)) (X18_all_ok (d := d + 68) hR8 hS8 hM8.cn hD8 hA) ?_
  intro g11 hc11 hm11
  obtain ⟨ts, arr, hD11, hT11, hTm, F11⟩ := hc11
  have FF : xFr oRb 17330 g g11 := (F8.tr F11).sub (fun o h => by unfold o145 at h; unfold oRb; omega) (by omega)
  have nxb : ¬ oRb (xown g x) := by rw [hM.ox]; unfold oRb; omega
  have hM' := hM.frP FF (by unfold oRb; omega) (by unfold oRb; omega) (by unfold oRb; omega) (hM.P.fr FF (fun o h1 h2 => by unfold oP at h1; unfold oRb at h2; omega) (by unfold oRb; omega))
  rw [← adE_fr F11.e e] at hD11
  obtain ⟨z1, z2, z3, z4, z5, z6, z7⟩ := rAll_ok hln hA
  exact rd_14_B (d := d) (g0 := g) hM' h8 (hB.fr FF (by unfold oRb; omega)) hln hM.tx hM.ox hxl (fun j => FF.i' hxl nxb) (fun j => FF.r' hxl nxb) hD11 hT11 z7 hTm z1 z2 z5 z3 z4 FF (by omega) hb

theorem SP_X1_read_E {d : Nat} {g : xG} {x p lk fa ka la n rr ww : Nat} {Z : xAd} {S : xMS} (hM : xMn g x p lk fa ka la Z S n rr ww)  {tb ln : Nat} {ch : Nat → Nat} (h8 : xr g x 8 = some tb) (hB : xBd g 11 tb ln ch) (hln : ln ≤ 60) (hSC : xSC g) {f : Nat} (hA : rAll ln ch = .error f)  : XM M_X1_read (d + 81) [.ref x] g (xRdE g x tb f 17500 (fun o => o = 1 ∨ o = 11 ∨ o = 14 ∨ o = 15) ch) := by
  have hxl : x < xsz g := xlt (by rw [hM.tx]; decide)
  have p0 := hM.P.p0
  have FN : xFr o145 10 g (xNew g (xBlank 15 14 3) 3) := (xFr.rf (O := o145) (n := 0)).nw.sub (fun _ h => h) (by decide)
  have nx : ¬ o145 (xown g x) := by rw [hM.ox]; unfold o145; omega
  have txN : xtag (xNew g (xBlank 15 14 3) 3) x = 1 := (FN.tag hxl).trans hM.tx
  have h8N : xr (xNew g (xBlank 15 14 3) 3) x 8 = some tb := (FN.r' hxl nx).trans h8
  have hEN : xEmp (xNew g (xBlank 15 14 3) 3) := (hM.frP FN (by unfold o145; omega) (by unfold o145; omega) (by unfold o145; omega) (hM.P.fr FN (fun o h1 h2 => by unfold oP at h1; unfold o145 at h2; omega) (by unfold o145; omega))).em
  have tbN : xtag (xNew g (xBlank 15 14 3) 3) tb = 19 := (hB.fr FN (by unfold o145; omega)).tag
  refine xm_of (by decide +kernel) (Nat.le_of_ble_eq_true rfl) ?_
  show XW _ _ 0 [(0, _)] [] _ _
  refine xw_new (t := 15) (pc := 0) 14 dX1_read_0 rfl (by decide) (by first | decide | assumption | omega) q1838 q1839 q138 ?_
  refine xw_at (a := (xsz g)) (by rfl) ?_
  refine xw_dup (pc := 3) dX1_read_3 rfl ?_
  refine xw_aload_n (pc := 4) dX1_read_4 0 rfl ?_
  refine xw_getS (b := tb) (pc := 5) fd_X1_47 dX1_read_5 (by first | assumption | (simp [-List.getD_eq_getElem?_getD, xE_setI, xsz_setI, xsl_setI, xtag_setI, xown_setI, xlen_setI, xE_setR, xsz_setR, xsl_setR, xtag_setR, xown_setR, xlen_setR, xE_setW, xsz_setW, xsl_setW, xtag_setW, xown_setW, xlen_setW, xi_setR, xi_setW, xr_setI, xr_setW, xww_setI, xww_setR, xi_setI, xr_setR, xww_setW, xE_new, xsz_new, xsl_new, hM.tx, h8, txN, h8N, xsub]; done) | (simp [-List.getD_eq_getElem?_getD, xE_setI, xsz_setI, xsl_setI, xtag_setI, xown_setI, xlen_setI, xE_setR, xsz_setR, xsl_setR, xtag_setR, xown_setR, xlen_setR, xE_setW, xsz_setW, xsl_setW, xtag_setW, xown_setW, xlen_setW, xi_setR, xi_setW, xr_setI, xr_setW, xww_setI, xww_setR, xi_setI, xr_setR, xww_setW, xE_new, xsz_new, xsl_new, hM.tx, h8, txN, h8N] <;> rfl)) (by simp [-List.getD_eq_getElem?_getD, xE_setI, xsz_setI, xsl_setI, xtag_setI, xown_setI, xlen_setI, xE_setR, xsz_setR, xsl_setR, xtag_setR, xown_setR, xlen_setR, xE_setW, xsz_setW, xsl_setW, xtag_setW, xown_setW, xlen_setW, xi_setR, xi_setW, xr_setI, xr_setW, xww_setI, xww_setR, xi_setI, xr_setR, xww_setW, xE_new, xsz_new, xsl_new, hM.tx, h8, txN, h8N]) ?_
  refine xw_callH (pc := 8) (xr_I (as := [_]) ok_X18_init rfl (by decide) q1840 q1841 rfl rfl dX1_read_8 rfl rfl (Nat.le_of_ble_eq_true rfl)) (SP_X18_init (d := d + 75) (R := xsz g) (tb := tb) hEN (xtag_newS rfl) (xown_newS rfl) (xi_newS rfl) (hB.fr FN (by unfold o145; omega)) hln) ?_
  intro g8 hc8 hm8
  obtain ⟨D, tl, hR8, hD8, F80⟩ := hc8
  have F8 : xFr o145 30 g g8 := (FN.tr F80).sub (fun _ h => h) (by omega)
  have hM8 := hM.frP F8 (by unfold o145; omega) (by unfold o145; omega) (by unfold o145; omega) (hM.P.fr F8 (fun o h1 h2 => by unfold oP at h1; unfold o145 at h2; omega) (by unfold o145; omega))
  have hS8 := hSC.fr F8 (by unfold o145; omega)
  have tR8 : xtag g8 (xsz g) = 15 := hR8.1
  refine xw_call (pc := 11) (xr_V (as := []) ok_X18_all rfl (by decide) q1896 q1897 q1898 (by first | (rw [tR8]; rfl) | (rw [xtag_newS rfl]; rfl)) (by first | (rw [tR8]; rfl) | (rw [xtag_newS rfl]; rfl)) dX1_read_11 rfl rfl (Nat.le_of_ble_eq_true rfl)) (X18_all_er (d := d + 68) hR8 hS8 hM8.cn hD8 hA) ?_
  intro rs g11 hc11 hm11
  obtain ⟨q, rfl, q1, q2, -, q4, F11⟩ := hc11
  have FF : xFr o145 17330 g g11 := (F8.tr F11).sub (fun _ h => h) (by omega)
  refine xx_catch [] (0, 108, 119, 511) [(0, 108, 136, 0), (119, 138, 136, 0)] rfl (fun z hz => by cases hz) (covAll (by decide) (by decide)) (by decide) q1837 (by rw [q1]; exact q1974) (by rw [q1]; decide) (by rw [q1]; decide) (by rw [q2]; decide) ?_
  refine xw_pick (pc := 119) (l' := [(0, _)]) [0] rfl ?_
  refine (rd_119 (d := d + 1) ((FF.tag hxl).trans hM.tx) ((FF.own hxl).trans hM.ox) ((FF.r' hxl nx).trans h8) (hB.fr FF (by unfold o145; omega)) (by omega) (f := f) q1 q2 q4).mono (fun rs g' hp _ => ?_)
  obtain ⟨q', e1, e2, e3, e4, e5, e6, e7, e8⟩ := hp
  exact ⟨q', e1, e2, e3, e4, fun j hj => (e5 j hj).trans (FF.i' hxl nx), fun j => (e6 j).trans (FF.r' hxl nx), e7, ((FF.sub (O' := fun o => o = 1 ∨ o = 11 ∨ o = 14 ∨ o = 15) (fun o h => by unfold o145 at h; omega) (Nat.le_refl _)).tr (e8.sub (m := 7) (O' := fun o => o = 1 ∨ o = 11 ∨ o = 14 ∨ o = 15) (fun o h => by omega) (Nat.le_refl _))).sub (fun _ h => h) (by omega)⟩

