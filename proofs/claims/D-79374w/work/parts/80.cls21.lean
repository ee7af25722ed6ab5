/-! CLASS 21: chains, laid -/
set_option maxRecDepth 100000
/-- other writes of the look's own cells -/
theorem xCs.gen {g g' : xG} {x lk fa ka la p n rr ww k : Nat} {Z : xAd} {s : Nat → Int32} {day feats wo : Int32} {H : Nat → Bool} (h : xCs g x lk fa ka la p Z s n rr ww k day feats wo H) (F : xFr (oEq 6) 0 g g') (e0 : ∀ j, xr g' lk j = xr g lk j) (e3 : xi g' lk 3 = xi g lk 3) (e4 : xi g' lk 4 = xi g lk 4) (ef : ∀ j, xi g' fa j = xi g fa j) (ek : ∀ j, xi g' ka j = xi g ka j) : xCs g' x lk fa ka la p Z s n rr ww k day feats wo H := by
  have hl : lk < xsz g := xlt (by rw [h.lt]; decide)
  have hf : fa < xsz g := xlt (by rw [h.fat]; decide)
  have hk : ka < xsz g := xlt (by rw [h.kat]; decide)
  have ha : la < xsz g := xlt (by rw [h.lat]; decide)
  have hx : x < xsz g := xlt (by rw [h.tx]; decide)
  have nx : ¬ oEq 6 (xown g x) := by rw [h.ox]; unfold oEq; omega
  obtain ⟨k1, k2, k3, k4, k5, k6, k7, k8, k9, k10, k11, k12, k13, k14⟩ := h.K
  refine ⟨⟨(F.tag hx).trans h.tx, (F.own hx).trans h.ox, (F.r' hx nx).trans h.xp⟩, h.P.fr F (fun o h1 h2 => by have := h.P.p0; unfold oP at h1; unfold oEq at h2; omega) (by unfold oEq; omega), h.kn, ⟨(F.tag hl).trans k1, (e0 0).trans k2, (e0 1).trans k3, (e0 5).trans k4, (e0 2).trans k5, e3.trans k6, e4.trans k7, (F.tag hf).trans k8, (F.len hf).trans k9, (F.tag hk).trans k10, (F.len hk).trans k11, (F.tag ha).trans k12, (F.len ha).trans k13, fun f hf' => (ef f).trans (k14 f hf')⟩, (e0 7).trans h.l7, ⟨(F.own hl).trans h.lko, (F.own hf).trans h.fao, (F.own hk).trans h.kao6, (F.own ha).trans h.lao⟩, h.ne, h.hH, fun r hr => by rw [ek]; exact h.M hr⟩
theorem xCs.setLa {g : xG} {x lk fa ka la p n rr ww k : Nat} {Z : xAd} {s : Nat → Int32} {day feats wo : Int32} {H : Nat → Bool} (h : xCs g x lk fa ka la p Z s n rr ww k day feats wo H) (j : Nat) (v : Int32) : xCs (xsetI g la j v) x lk fa ka la p Z s n rr ww k day feats wo H ∧ xFr (oEq 6) 0 g (xsetI g la j v) := by
  have nl : lk ≠ la := fun e => by have h1 := h.lt; rw [e, h.lat] at h1; cases h1
  have F : xFr (oEq 6) 0 g (xsetI g la j v) := xFr.rf.si (Or.inr h.lao)
  exact ⟨h.gen F (fun _ => xr_setI) (xi_setIN nl) (xi_setIN nl) (fun _ => xi_setIN h.ne.2.2) (fun _ => xi_setIN h.ne.2.1), F⟩
theorem xCs.setMany {g : xG} {x lk fa ka la p n rr ww k : Nat} {Z : xAd} {s : Nat → Int32} {day feats wo : Int32} {H : Nat → Bool} (h : xCs g x lk fa ka la p Z s n rr ww k day feats wo H) (v : Int32) : xCs (xsetI g lk 6 v) x lk fa ka la p Z s n rr ww k day feats wo H ∧ xFr (oEq 6) 0 g (xsetI g lk 6 v) := by
  have nf : fa ≠ lk := fun e => by have h1 := h.lt; rw [← e, h.fat] at h1; cases h1
  have nk : ka ≠ lk := fun e => by have h1 := h.lt; rw [← e, h.kat] at h1; cases h1
  have F : xFr (oEq 6) 0 g (xsetI g lk 6 v) := xFr.rf.si (Or.inr h.lko)
  exact ⟨h.gen F (fun _ => xr_setI) (xi_setIK (by decide)) (xi_setIK (by decide)) (fun _ => xi_setIN nf) (fun _ => xi_setIN nk), F⟩
/-- the links from m on are L; as many are told -/
def xChn (g g' : xG) (lk la m : Nat) (L : List Nat) : Prop := xi g' lk 6 = nI (m + L.length) ∧ (∀ j, j < m → xi g' la j = xi g la j) ∧ ∀ j, j < L.length → xi g' la (m + j) = nI (L.getD j 0)
theorem rdep_S {s : Nat → Int32} {r x : Nat} (hp : isPa s x r = true) (hr : r < x) (hr2 : r < 1000) : rdep s x = rdep s r + 1 := by
  have e : s (23 + 20 * x + 5) = nI r := of_decide_eq_true hp
  have e2 : s (28 + 20 * x) = nI r := by rw [show 28 + 20 * x = 23 + 20 * x + 5 from by omega]; exact e
  have e3 : parN s x = r := by unfold parN; rw [e2]; exact nI_clamp (by omega)
  rw [rdep, dif_pos ⟨by rw [e2]; exact Int32.not_lt.mp (m1lt (by omega)), by rw [e3]; exact hr⟩, e3]
theorem rdep_0 {s : Nat → Int32} {r : Nat} (h : isMa s r = true) : rdep s r = 0 := by
  have e : s (23 + 20 * r + 5) < 0 := of_decide_eq_true h
  rw [rdep, dif_neg (fun q => by
    have q1 := q.1
    rw [show 28 + 20 * r = 23 + 20 * r + 5 from by omega] at q1
    exact Int32.not_lt.mpr q1 e)]
theorem nxK_pa {s : Nat → Int32} {F : Nat → Bool} {r b : Nat} : ∀ i, nxK s F r i = some b → isPa s b r = true := by
  intro i
  induction i with
  | zero => intro h; cases h
  | succ i ih =>
    intro h
    rw [nxK] at h
    cases hP : isPa s (r + 1 + i) r with
    | false =>
      rw [hP, Bool.false_and, if_neg (by decide)] at h
      exact ih h
    | true =>
      split at h <;> split at h <;> first | exact ih h | (have e := Option.some.inj h; rw [← e]; exact hP)
theorem nxt_pa {s : Nat → Int32} {C H : Nat → Bool} {rr r x : Nat} (h : nxt s C H rr r = some x) : isPa s x r = true := by
  unfold nxt at h
  cases hq : nxK s H r (rr - r - 1) with
  | some y => rw [hq] at h; cases h; exact nxK_pa _ hq
  | none => rw [hq] at h; exact nxK_pa _ h
theorem prvK_ma {s : Nat → Int32} {H : Nat → Bool} {b : Nat} : ∀ i, prvK s H i = some b → isMa s b = true := by
  intro i
  induction i with
  | zero => intro h; cases h
  | succ i ih =>
    intro h
    rw [prvK] at h
    cases hP : isMa s i with
    | false =>
      rw [hP, Bool.false_and, if_neg (by decide)] at h
      exact ih h
    | true =>
      split at h <;> split at h <;> first | exact ih h | (have e := Option.some.inj h; rw [← e]; exact hP)
theorem chF_len5 {s : Nat → Int32} {C H : Nat → Bool} {n rr ww : Nat} (hW : WFS s n rr ww) : ∀ f r, r < rr → (chF s C H rr f r).length + rdep s r ≤ 5 := by
  have r16 := hW.r16
  intro f
  induction f with
  | zero => intro r hr; have := (hW.ru hr).2.2.2.2.2.2.1; simp only [chF, List.length_nil]; omega
  | succ f ih =>
    intro r hr
    have hd := (hW.ru hr).2.2.2.2.2.2.1
    rw [chF, List.length_cons]
    cases hn : nxt s C H rr r with
    | none => simp only [List.length_nil]; omega
    | some x =>
      have hl := nxt_lt hn hr
      have := ih x hl.2
      have e := rdep_S (nxt_pa hn) hl.1 (by omega)
      simp only
      omega
theorem SP_X5_goesOn_0 {d : Nat} {g : xG} {a : Nat} : XM M_X5_goesOn d [.ref a, .null] g (xOne none g) := by
  refine xm_of (by decide +kernel) (Nat.le_of_ble_eq_true rfl) ?_
  show XW _ _ 0 [(0, _), (1, _)] [] _ _
  refine xw_aload_n (pc := 0) dX5_goesOn_0 1 rfl ?_
  refine xw_ifnonnullN (pc := 1) dX5_goesOn_1 ?_
  refine xw_vret (pc := 4) dX5_goesOn_4 rfl ?_
  exact ⟨rfl, rfl⟩

theorem x_goesOn {d f r m : Nat} {g : xG} {x lk fa ka la p n rr ww k : Nat} {Z : xAd} {s : Nat → Int32} {day feats wo : Int32} {H : Nat → Bool} (hX : xCs g x lk fa ka la p Z s n rr ww k day feats wo H) (hr : r < rr) (hm : xi g lk 6 = nI m) (hmr : m = rdep s r)
    (hrec : ∀ x', r < x' → x' < rr → ∀ (g1 : xG), xCs g1 x lk fa ka la p Z s n rr ww k day feats wo H → xi g1 lk 6 = nI (m + 1) → m + 1 = rdep s x' → XM M_X5_goesOn (d + 46) [.ref lk, .ref ((aR Z).getD x' 0)] g1 (xVoid (fun g' => xCs g' x lk fa ka la p Z s n rr ww k day feats wo H ∧ xFr (oEq 6) 0 g1 g' ∧ xChn g1 g' lk la (m + 1) (chF s (cov s wo k day feats) H rr f x')))) : XM M_X5_goesOn (d + 47) [.ref lk, .ref ((aR Z).getD r 0)] g (xVoid (fun g' => xCs g' x lk fa ka la p Z s n rr ww k day feats wo H ∧ xFr (oEq 6) 0 g g' ∧ xChn g g' lk la m (chF s (cov s wo k day feats) H rr (f + 1) r))) := by
  have r16 := hX.P.wf.r16
  have hdl := (hX.P.wf.ru hr).2.2.2.2.2.2.1
  have txr := xRu_x (hX.P.ru hr)
  have nr : xi g ((aR Z).getD r 0) 0 = nI r := (hX.P.ru hr).2.1
  have l0 : ¬ xown g la = 0 := by rw [hX.lao]; decide
  have l6 : ¬ xown g lk = 0 := by rw [hX.lko]; decide
  have nla : xtag g la ≠ 0 := by rw [hX.lat]; decide
  have nlk : xtag g lk ≠ 0 := by rw [hX.lt]; decide
  have nl : lk ≠ la := fun e => by have h1 := hX.lt; rw [e, hX.lat] at h1; cases h1
  have x1 := hX.setLa m (nI r)
  have x2 := x1.1.setMany (nI (m + 1))
  have m1 : xi (xsetI g la m (nI r)) lk 6 = nI m := by rw [xi_setIN nl]; exact hm
  have q1 : xtag (xsetI g la m (nI r)) lk = 4 := x1.1.lt
  have q2 : ¬ xown (xsetI g la m (nI r)) lk = 0 := by rw [xown_setI]; exact l6
  have y1 : xi (xsetI (xsetI g la m (nI r)) lk 6 (nI (m + 1))) lk 6 = nI (m + 1) := xi_setIS (by rw [xtag_setI]; exact nlk)
  have y2 : xi (xsetI (xsetI g la m (nI r)) lk 6 (nI (m + 1))) la m = nI r := by rw [xi_setIN (fun e => nl e.symm), xi_setIS nla]
  have y3 : ∀ j, j ≠ m → xi (xsetI (xsetI g la m (nI r)) lk 6 (nI (m + 1))) la j = xi g la j := fun j hj => by rw [xi_setIN (fun e => nl e.symm), xi_setIK hj]
  refine xm_of (by decide +kernel) (Nat.le_of_ble_eq_true rfl) ?_
  show XW _ _ 0 [(0, _), (1, _)] [] _ _
  refine xw_aload_n (pc := 0) dX5_goesOn_0 1 rfl ?_
  refine xw_ifnonnull (pc := 1) 5 dX5_goesOn_1 rfl ?_
  refine xw_aload_n (pc := 5) dX5_goesOn_5 0 rfl ?_
  refine xw_getS (b := la) (pc := 6) fd_X5_22 dX5_goesOn_6 (by first | assumption | (simp [-List.getD_eq_getElem?_getD, xE_setI, xsz_setI, xsl_setI, xtag_setI, xown_setI, xlen_setI, xE_setR, xsz_setR, xsl_setR, xtag_setR, xown_setR, xlen_setR, xE_setW, xsz_setW, xsl_setW, xtag_setW, xown_setW, xlen_setW, xi_setR, xi_setW, xr_setI, xr_setW, xww_setI, xww_setR, xi_setI, xr_setR, xww_setW, xE_new, xsz_new, xsl_new, hX.tx, hX.xp, hX.P.tag, hX.P.f0, hX.P.f1, hX.P.f2, hX.lt, hX.l0, hX.l1, hX.l5, hX.l2, hX.l7, hX.fat, hX.kat, hX.lat, hX.kao, txr, nr, l0, m1, q1, q2, hm, xsub]; done) | (simp [-List.getD_eq_getElem?_getD, xE_setI, xsz_setI, xsl_setI, xtag_setI, xown_setI, xlen_setI, xE_setR, xsz_setR, xsl_setR, xtag_setR, xown_setR, xlen_setR, xE_setW, xsz_setW, xsl_setW, xtag_setW, xown_setW, xlen_setW, xi_setR, xi_setW, xr_setI, xr_setW, xww_setI, xww_setR, xi_setI, xr_setR, xww_setW, xE_new, xsz_new, xsl_new, hX.tx, hX.xp, hX.P.tag, hX.P.f0, hX.P.f1, hX.P.f2, hX.lt, hX.l0, hX.l1, hX.l5, hX.l2, hX.l7, hX.fat, hX.kat, hX.lat, hX.kao, txr, nr, l0, m1, q1, q2, hm] <;> rfl)) (by simp [-List.getD_eq_getElem?_getD, xE_setI, xsz_setI, xsl_setI, xtag_setI, xown_setI, xlen_setI, xE_setR, xsz_setR, xsl_setR, xtag_setR, xown_setR, xlen_setR, xE_setW, xsz_setW, xsl_setW, xtag_setW, xown_setW, xlen_setW, xi_setR, xi_setW, xr_setI, xr_setW, xww_setI, xww_setR, xi_setI, xr_setR, xww_setW, xE_new, xsz_new, xsl_new, hX.tx, hX.xp, hX.P.tag, hX.P.f0, hX.P.f1, hX.P.f2, hX.lt, hX.l0, hX.l1, hX.l5, hX.l2, hX.l7, hX.fat, hX.kat, hX.lat, hX.kao, txr, nr, l0, m1, q1, q2, hm]) ?_
  refine xw_aload_n (pc := 9) dX5_goesOn_9 0 rfl ?_
  refine xw_getNat (k := m) (pc := 10) fd_X5_140 dX5_goesOn_10 (by first | assumption | (simp [-List.getD_eq_getElem?_getD, xE_setI, xsz_setI, xsl_setI, xtag_setI, xown_setI, xlen_setI, xE_setR, xsz_setR, xsl_setR, xtag_setR, xown_setR, xlen_setR, xE_setW, xsz_setW, xsl_setW, xtag_setW, xown_setW, xlen_setW, xi_setR, xi_setW, xr_setI, xr_setW, xww_setI, xww_setR, xi_setI, xr_setR, xww_setW, xE_new, xsz_new, xsl_new, hX.tx, hX.xp, hX.P.tag, hX.P.f0, hX.P.f1, hX.P.f2, hX.lt, hX.l0, hX.l1, hX.l5, hX.l2, hX.l7, hX.fat, hX.kat, hX.lat, hX.kao, txr, nr, l0, m1, q1, q2, hm, xsub]; done) | (simp [-List.getD_eq_getElem?_getD, xE_setI, xsz_setI, xsl_setI, xtag_setI, xown_setI, xlen_setI, xE_setR, xsz_setR, xsl_setR, xtag_setR, xown_setR, xlen_setR, xE_setW, xsz_setW, xsl_setW, xtag_setW, xown_setW, xlen_setW, xi_setR, xi_setW, xr_setI, xr_setW, xww_setI, xww_setR, xi_setI, xr_setR, xww_setW, xE_new, xsz_new, xsl_new, hX.tx, hX.xp, hX.P.tag, hX.P.f0, hX.P.f1, hX.P.f2, hX.lt, hX.l0, hX.l1, hX.l5, hX.l2, hX.l7, hX.fat, hX.kat, hX.lat, hX.kao, txr, nr, l0, m1, q1, q2, hm] <;> rfl)) (by simp [-List.getD_eq_getElem?_getD, xE_setI, xsz_setI, xsl_setI, xtag_setI, xown_setI, xlen_setI, xE_setR, xsz_setR, xsl_setR, xtag_setR, xown_setR, xlen_setR, xE_setW, xsz_setW, xsl_setW, xtag_setW, xown_setW, xlen_setW, xi_setR, xi_setW, xr_setI, xr_setW, xww_setI, xww_setR, xi_setI, xr_setR, xww_setW, xE_new, xsz_new, xsl_new, hX.tx, hX.xp, hX.P.tag, hX.P.f0, hX.P.f1, hX.P.f2, hX.lt, hX.l0, hX.l1, hX.l5, hX.l2, hX.l7, hX.fat, hX.kat, hX.lat, hX.kao, txr, nr, l0, m1, q1, q2, hm]) ?_
  refine xw_aload_n (pc := 13) dX5_goesOn_13 1 rfl ?_
  refine xw_getNat (k := r) (pc := 14) fd_X5_68 dX5_goesOn_14 (by first | assumption | (simp [-List.getD_eq_getElem?_getD, xE_setI, xsz_setI, xsl_setI, xtag_setI, xown_setI, xlen_setI, xE_setR, xsz_setR, xsl_setR, xtag_setR, xown_setR, xlen_setR, xE_setW, xsz_setW, xsl_setW, xtag_setW, xown_setW, xlen_setW, xi_setR, xi_setW, xr_setI, xr_setW, xww_setI, xww_setR, xi_setI, xr_setR, xww_setW, xE_new, xsz_new, xsl_new, hX.tx, hX.xp, hX.P.tag, hX.P.f0, hX.P.f1, hX.P.f2, hX.lt, hX.l0, hX.l1, hX.l5, hX.l2, hX.l7, hX.fat, hX.kat, hX.lat, hX.kao, txr, nr, l0, m1, q1, q2, hm, xsub]; done) | (simp [-List.getD_eq_getElem?_getD, xE_setI, xsz_setI, xsl_setI, xtag_setI, xown_setI, xlen_setI, xE_setR, xsz_setR, xsl_setR, xtag_setR, xown_setR, xlen_setR, xE_setW, xsz_setW, xsl_setW, xtag_setW, xown_setW, xlen_setW, xi_setR, xi_setW, xr_setI, xr_setW, xww_setI, xww_setR, xi_setI, xr_setR, xww_setW, xE_new, xsz_new, xsl_new, hX.tx, hX.xp, hX.P.tag, hX.P.f0, hX.P.f1, hX.P.f2, hX.lt, hX.l0, hX.l1, hX.l5, hX.l2, hX.l7, hX.fat, hX.kat, hX.lat, hX.kao, txr, nr, l0, m1, q1, q2, hm] <;> rfl)) (by simp [-List.getD_eq_getElem?_getD, xE_setI, xsz_setI, xsl_setI, xtag_setI, xown_setI, xlen_setI, xE_setR, xsz_setR, xsl_setR, xtag_setR, xown_setR, xlen_setR, xE_setW, xsz_setW, xsl_setW, xtag_setW, xown_setW, xlen_setW, xi_setR, xi_setW, xr_setI, xr_setW, xww_setI, xww_setR, xi_setI, xr_setR, xww_setW, xE_new, xsz_new, xsl_new, hX.tx, hX.xp, hX.P.tag, hX.P.f0, hX.P.f1, hX.P.f2, hX.lt, hX.l0, hX.l1, hX.l5, hX.l2, hX.l7, hX.fat, hX.kat, hX.lat, hX.kao, txr, nr, l0, m1, q1, q2, hm]) ?_
  refine xw_iast (k := m) (pc := 17) dX5_goesOn_17 (by simp [-List.getD_eq_getElem?_getD, xE_setI, xsz_setI, xsl_setI, xtag_setI, xown_setI, xlen_setI, xE_setR, xsz_setR, xsl_setR, xtag_setR, xown_setR, xlen_setR, xE_setW, xsz_setW, xsl_setW, xtag_setW, xown_setW, xlen_setW, xi_setR, xi_setW, xr_setI, xr_setW, xww_setI, xww_setR, xi_setI, xr_setR, xww_setW, xE_new, xsz_new, xsl_new, hX.tx, hX.xp, hX.P.tag, hX.P.f0, hX.P.f1, hX.P.f2, hX.lt, hX.l0, hX.l1, hX.l5, hX.l2, hX.l7, hX.fat, hX.kat, hX.lat, hX.kao, txr, nr, l0, m1, q1, q2, hm]) (by first | assumption | (simp [-List.getD_eq_getElem?_getD, xE_setI, xsz_setI, xsl_setI, xtag_setI, xown_setI, xlen_setI, xE_setR, xsz_setR, xsl_setR, xtag_setR, xown_setR, xlen_setR, xE_setW, xsz_setW, xsl_setW, xtag_setW, xown_setW, xlen_setW, xi_setR, xi_setW, xr_setI, xr_setW, xww_setI, xww_setR, xi_setI, xr_setR, xww_setW, xE_new, xsz_new, xsl_new, hX.tx, hX.xp, hX.P.tag, hX.P.f0, hX.P.f1, hX.P.f2, hX.lt, hX.l0, hX.l1, hX.l5, hX.l2, hX.l7, hX.fat, hX.kat, hX.lat, hX.kao, txr, nr, l0, m1, q1, q2, hm]; done) | (simp [-List.getD_eq_getElem?_getD, xE_setI, xsz_setI, xsl_setI, xtag_setI, xown_setI, xlen_setI, xE_setR, xsz_setR, xsl_setR, xtag_setR, xown_setR, xlen_setR, xE_setW, xsz_setW, xsl_setW, xtag_setW, xown_setW, xlen_setW, xi_setR, xi_setW, xr_setI, xr_setW, xww_setI, xww_setR, xi_setI, xr_setR, xww_setW, xE_new, xsz_new, xsl_new, hX.tx, hX.xp, hX.P.tag, hX.P.f0, hX.P.f1, hX.P.f2, hX.lt, hX.l0, hX.l1, hX.l5, hX.l2, hX.l7, hX.fat, hX.kat, hX.lat, hX.kao, txr, nr, l0, m1, q1, q2, hm]; assumption)) rfl (by rw [hX.lal]; omega) ?_
  refine xw_aload_n (pc := 18) dX5_goesOn_18 0 rfl ?_
  refine xw_dup (pc := 19) dX5_goesOn_19 rfl ?_
  refine xw_getNat (k := m) (pc := 20) fd_X5_140 dX5_goesOn_20 (by first | assumption | (simp [-List.getD_eq_getElem?_getD, xE_setI, xsz_setI, xsl_setI, xtag_setI, xown_setI, xlen_setI, xE_setR, xsz_setR, xsl_setR, xtag_setR, xown_setR, xlen_setR, xE_setW, xsz_setW, xsl_setW, xtag_setW, xown_setW, xlen_setW, xi_setR, xi_setW, xr_setI, xr_setW, xww_setI, xww_setR, xi_setI, xr_setR, xww_setW, xE_new, xsz_new, xsl_new, hX.tx, hX.xp, hX.P.tag, hX.P.f0, hX.P.f1, hX.P.f2, hX.lt, hX.l0, hX.l1, hX.l5, hX.l2, hX.l7, hX.fat, hX.kat, hX.lat, hX.kao, txr, nr, l0, m1, q1, q2, hm, xsub]; done) | (simp [-List.getD_eq_getElem?_getD, xE_setI, xsz_setI, xsl_setI, xtag_setI, xown_setI, xlen_setI, xE_setR, xsz_setR, xsl_setR, xtag_setR, xown_setR, xlen_setR, xE_setW, xsz_setW, xsl_setW, xtag_setW, xown_setW, xlen_setW, xi_setR, xi_setW, xr_setI, xr_setW, xww_setI, xww_setR, xi_setI, xr_setR, xww_setW, xE_new, xsz_new, xsl_new, hX.tx, hX.xp, hX.P.tag, hX.P.f0, hX.P.f1, hX.P.f2, hX.lt, hX.l0, hX.l1, hX.l5, hX.l2, hX.l7, hX.fat, hX.kat, hX.lat, hX.kao, txr, nr, l0, m1, q1, q2, hm] <;> rfl)) (by simp [-List.getD_eq_getElem?_getD, xE_setI, xsz_setI, xsl_setI, xtag_setI, xown_setI, xlen_setI, xE_setR, xsz_setR, xsl_setR, xtag_setR, xown_setR, xlen_setR, xE_setW, xsz_setW, xsl_setW, xtag_setW, xown_setW, xlen_setW, xi_setR, xi_setW, xr_setI, xr_setW, xww_setI, xww_setR, xi_setI, xr_setR, xww_setW, xE_new, xsz_new, xsl_new, hX.tx, hX.xp, hX.P.tag, hX.P.f0, hX.P.f1, hX.P.f2, hX.lt, hX.l0, hX.l1, hX.l5, hX.l2, hX.l7, hX.fat, hX.kat, hX.lat, hX.kao, txr, nr, l0, m1, q1, q2, hm]) ?_
  refine xw_iconst (v := nI 1) (pc := 23) dX5_goesOn_23 rfl ?_
  refine xn_iadd (pc := 24) dX5_goesOn_24 ?_
  refine xw_putI (pc := 25) fd_X5_140 (xfin_of (by decide) (by decide +kernel)) dX5_goesOn_25 (by first | assumption | (simp [-List.getD_eq_getElem?_getD, xE_setI, xsz_setI, xsl_setI, xtag_setI, xown_setI, xlen_setI, xE_setR, xsz_setR, xsl_setR, xtag_setR, xown_setR, xlen_setR, xE_setW, xsz_setW, xsl_setW, xtag_setW, xown_setW, xlen_setW, xi_setR, xi_setW, xr_setI, xr_setW, xww_setI, xww_setR, xi_setI, xr_setR, xww_setW, xE_new, xsz_new, xsl_new, hX.tx, hX.xp, hX.P.tag, hX.P.f0, hX.P.f1, hX.P.f2, hX.lt, hX.l0, hX.l1, hX.l5, hX.l2, hX.l7, hX.fat, hX.kat, hX.lat, hX.kao, txr, nr, l0, m1, q1, q2, hm, xsub]; done) | (simp [-List.getD_eq_getElem?_getD, xE_setI, xsz_setI, xsl_setI, xtag_setI, xown_setI, xlen_setI, xE_setR, xsz_setR, xsl_setR, xtag_setR, xown_setR, xlen_setR, xE_setW, xsz_setW, xsl_setW, xtag_setW, xown_setW, xlen_setW, xi_setR, xi_setW, xr_setI, xr_setW, xww_setI, xww_setR, xi_setI, xr_setR, xww_setW, xE_new, xsz_new, xsl_new, hX.tx, hX.xp, hX.P.tag, hX.P.f0, hX.P.f1, hX.P.f2, hX.lt, hX.l0, hX.l1, hX.l5, hX.l2, hX.l7, hX.fat, hX.kat, hX.lat, hX.kao, txr, nr, l0, m1, q1, q2, hm] <;> rfl)) (by first | assumption | (simp [-List.getD_eq_getElem?_getD, xE_setI, xsz_setI, xsl_setI, xtag_setI, xown_setI, xlen_setI, xE_setR, xsz_setR, xsl_setR, xtag_setR, xown_setR, xlen_setR, xE_setW, xsz_setW, xsl_setW, xtag_setW, xown_setW, xlen_setW, xi_setR, xi_setW, xr_setI, xr_setW, xww_setI, xww_setR, xi_setI, xr_setR, xww_setW, xE_new, xsz_new, xsl_new, hX.tx, hX.xp, hX.P.tag, hX.P.f0, hX.P.f1, hX.P.f2, hX.lt, hX.l0, hX.l1, hX.l5, hX.l2, hX.l7, hX.fat, hX.kat, hX.lat, hX.kao, txr, nr, l0, m1, q1, q2, hm]; done) | (simp [-List.getD_eq_getElem?_getD, xE_setI, xsz_setI, xsl_setI, xtag_setI, xown_setI, xlen_setI, xE_setR, xsz_setR, xsl_setR, xtag_setR, xown_setR, xlen_setR, xE_setW, xsz_setW, xsl_setW, xtag_setW, xown_setW, xlen_setW, xi_setR, xi_setW, xr_setI, xr_setW, xww_setI, xww_setR, xi_setI, xr_setR, xww_setW, xE_new, xsz_new, xsl_new, hX.tx, hX.xp, hX.P.tag, hX.P.f0, hX.P.f1, hX.P.f2, hX.lt, hX.l0, hX.l1, hX.l5, hX.l2, hX.l7, hX.fat, hX.kat, hX.lat, hX.kao, txr, nr, l0, m1, q1, q2, hm]; assumption)) ?_
  refine xw_aload_n (pc := 28) dX5_goesOn_28 0 rfl ?_
  refine xw_aload_n (pc := 29) dX5_goesOn_29 0 rfl ?_
  refine xw_aload_n (pc := 30) dX5_goesOn_30 1 rfl ?_
  refine xw_callF (pc := 31) (xr_V (as := [_]) ok_X5_next rfl (by decide) q880 q882 qs12 (by first | (rw [hX.lt]; rfl) | (rw [x2.1.lt]; rfl)) (by first | (rw [hX.lt]; rfl) | (rw [x2.1.lt]; rfl)) dX5_goesOn_31 rfl rfl (Nat.le_of_ble_eq_true rfl)) (SP_X5_next (d := d) x2.1 hr) ?_
  intro g31 hc31 hm31
  have nlk2 : lk ≠ ka := fun e => by have h1 := hX.lt; rw [e, hX.kat] at h1; cases h1
  have elk := hc31.2.2.2.2.2 lk nlk2
  have ela := hc31.2.2.2.2.2 la (fun e => hX.ne.2.1 e.symm)
  have F2 : xFr (oEq 6) 0 g g31 := ((x1.2.tr x2.2).tr (hc31.2.fr x2.1.kao6)).sub (fun _ h => h) (Nat.le_refl _)
  cases hn : nxt s (cov s wo k day feats) H rr r with
  | none =>
    show XW _ _ 34 [(0, _), (1, _)] [.null, _] _ _
    refine xw_callU (pc := 34) (xr_V (as := [_]) ok_X5_goesOn rfl (by decide) q876 q878 qs11 (by rw [hc31.1.lt]; rfl) (by rw [hc31.1.lt]; rfl) dX5_goesOn_34 rfl rfl (Nat.le_of_ble_eq_true rfl)) (SP_X5_goesOn_0) ?_
    refine xw_vret (pc := 37) dX5_goesOn_37 rfl ?_
    refine ⟨rfl, hc31.1, F2, ?_, fun j hj => ?_, fun j hj => ?_⟩
    · rw [xi_of elk, y1, chF, hn]; rfl
    · rw [xi_of ela, y3 j (by omega)]
    · rw [chF, hn] at hj ⊢
      have hj0 : j = 0 := by simp only [List.length_cons, List.length_nil] at hj; omega
      subst hj0
      rw [xi_of ela]
      exact y2
  | some x' =>
    have hl := nxt_lt hn hr
    have e := rdep_S (nxt_pa hn) hl.1 (by omega)
    show XW _ _ 34 [(0, _), (1, _)] [.ref ((aR Z).getD x' 0), _] _ _
    refine xw_callH (pc := 34) (xr_V (as := [_]) ok_X5_goesOn rfl (by decide) q876 q878 qs11 (by rw [hc31.1.lt]; rfl) (by rw [hc31.1.lt]; rfl) dX5_goesOn_34 rfl rfl (Nat.le_of_ble_eq_true rfl)) (hrec x' hl.1 hl.2 g31 hc31.1 (by rw [xi_of elk]; exact y1) (by omega)) ?_
    intro g34 hc34 hm34
    refine xw_vret (pc := 37) dX5_goesOn_37 rfl ?_
    obtain ⟨z1, z2, z3⟩ := hc34.2.2
    refine ⟨rfl, hc34.1, (F2.tr hc34.2.1).sub (fun _ h => h) (Nat.le_refl _), ?_, fun j hj => ?_, fun j hj => ?_⟩
    · rw [z1, chF, hn, List.length_cons, show m + 1 + (chF s (cov s wo k day feats) H rr f x').length = m + ((chF s (cov s wo k day feats) H rr f x').length + 1) from by omega]
    · rw [z2 j (by omega), xi_of ela, y3 j (by omega)]
    · rw [chF, hn] at hj ⊢
      cases j with
      | zero => rw [z2 (m + 0) (by omega), xi_of ela]; exact y2
      | succ j =>
        rw [List.length_cons] at hj
        have hj9 : j + 1 < (chF s (cov s wo k day feats) H rr f x').length + 1 := hj
        rw [show m + (j + 1) = m + 1 + j from by omega, z3 j (by omega)]
        rfl
theorem SP_X5_goesOnT {x lk fa ka la p n rr ww k : Nat} {Z : xAd} {s : Nat → Int32} {day feats wo : Int32} {H : Nat → Bool} : ∀ (f r : Nat), r < rr → rr - r ≤ f → ∀ (m d : Nat) (g : xG), 47 + f ≤ d → xCs g x lk fa ka la p Z s n rr ww k day feats wo H → xi g lk 6 = nI m → m = rdep s r → XM M_X5_goesOn d [.ref lk, .ref ((aR Z).getD r 0)] g (xVoid (fun g' => xCs g' x lk fa ka la p Z s n rr ww k day feats wo H ∧ xFr (oEq 6) 0 g g' ∧ xChn g g' lk la m (chF s (cov s wo k day feats) H rr f r))) := by
  intro f
  induction f with
  | zero => intro r hr h; omega
  | succ f ih =>
    intro r hr ht m d g hd hX hm hmr
    obtain ⟨d', rfl⟩ : ∃ d', d = d' + 47 := ⟨d - 47, by omega⟩
    exact x_goesOn hX hr hm hmr (fun x' h1 h2 g1 hX' hm' hmr' => ih x' h2 (by omega) (m + 1) (d' + 46) g1 (by omega) hX' hm' hmr')
theorem SP_X5_chain {d : Nat} {g : xG} {x lk fa ka la p n rr ww k : Nat} {Z : xAd} {s : Nat → Int32} {day feats wo : Int32} {H : Nat → Bool} (hX : xCs g x lk fa ka la p Z s n rr ww k day feats wo H) : XM M_X5_chain (d + 64) [.ref lk] g (xVal (.int (nI (chn s (cov s wo k day feats) H rr).length)) (fun g' => xCs g' x lk fa ka la p Z s n rr ww k day feats wo H ∧ xFr (oEq 6) 0 g g' ∧ (chn s (cov s wo k day feats) H rr).length ≤ 5 ∧ ∀ j, j < (chn s (cov s wo k day feats) H rr).length → xi g' la j = nI ((chn s (cov s wo k day feats) H rr).getD j 0))) := by
  have r16 := hX.P.wf.r16
  have l6 : ¬ xown g lk = 0 := by rw [hX.lko]; decide
  have nlk : xtag g lk ≠ 0 := by rw [hX.lt]; decide
  have x2 := hX.setMany (nI 0)
  have y1 : xi (xsetI g lk 6 (nI 0)) lk 6 = nI 0 := xi_setIS nlk
  refine xm_of (by decide +kernel) (Nat.le_of_ble_eq_true rfl) ?_
  show XW _ _ 0 [(0, _)] [] _ _
  refine xw_aload_n (pc := 0) dX5_chain_0 0 rfl ?_
  refine xw_iconst (v := nI 0) (pc := 1) dX5_chain_1 rfl ?_
  refine xw_putI (pc := 2) fd_X5_140 (xfin_of (by decide) (by decide +kernel)) dX5_chain_2 (by first | assumption | (simp [-List.getD_eq_getElem?_getD, xE_setI, xsz_setI, xsl_setI, xtag_setI, xown_setI, xlen_setI, xE_setR, xsz_setR, xsl_setR, xtag_setR, xown_setR, xlen_setR, xE_setW, xsz_setW, xsl_setW, xtag_setW, xown_setW, xlen_setW, xi_setR, xi_setW, xr_setI, xr_setW, xww_setI, xww_setR, xi_setI, xr_setR, xww_setW, xE_new, xsz_new, xsl_new, hX.tx, hX.xp, hX.P.tag, hX.P.f0, hX.P.f1, hX.P.f2, hX.lt, hX.l0, hX.l1, hX.l5, hX.l2, hX.l7, hX.fat, hX.kat, hX.lat, hX.kao, l6, xsub]; done) | (simp [-List.getD_eq_getElem?_getD, xE_setI, xsz_setI, xsl_setI, xtag_setI, xown_setI, xlen_setI, xE_setR, xsz_setR, xsl_setR, xtag_setR, xown_setR, xlen_setR, xE_setW, xsz_setW, xsl_setW, xtag_setW, xown_setW, xlen_setW, xi_setR, xi_setW, xr_setI, xr_setW, xww_setI, xww_setR, xi_setI, xr_setR, xww_setW, xE_new, xsz_new, xsl_new, hX.tx, hX.xp, hX.P.tag, hX.P.f0, hX.P.f1, hX.P.f2, hX.lt, hX.l0, hX.l1, hX.l5, hX.l2, hX.l7, hX.fat, hX.kat, hX.lat, hX.kao, l6] <;> rfl)) (by first | assumption | (simp [-List.getD_eq_getElem?_getD, xE_setI, xsz_setI, xsl_setI, xtag_setI, xown_setI, xlen_setI, xE_setR, xsz_setR, xsl_setR, xtag_setR, xown_setR, xlen_setR, xE_setW, xsz_setW, xsl_setW, xtag_setW, xown_setW, xlen_setW, xi_setR, xi_setW, xr_setI, xr_setW, xww_setI, xww_setR, xi_setI, xr_setR, xww_setW, xE_new, xsz_new, xsl_new, hX.tx, hX.xp, hX.P.tag, hX.P.f0, hX.P.f1, hX.P.f2, hX.lt, hX.l0, hX.l1, hX.l5, hX.l2, hX.l7, hX.fat, hX.kat, hX.lat, hX.kao, l6]; done) | (simp [-List.getD_eq_getElem?_getD, xE_setI, xsz_setI, xsl_setI, xtag_setI, xown_setI, xlen_setI, xE_setR, xsz_setR, xsl_setR, xtag_setR, xown_setR, xlen_setR, xE_setW, xsz_setW, xsl_setW, xtag_setW, xown_setW, xlen_setW, xi_setR, xi_setW, xr_setI, xr_setW, xww_setI, xww_setR, xi_setI, xr_setR, xww_setW, xE_new, xsz_new, xsl_new, hX.tx, hX.xp, hX.P.tag, hX.P.f0, hX.P.f1, hX.P.f2, hX.lt, hX.l0, hX.l1, hX.l5, hX.l2, hX.l7, hX.fat, hX.kat, hX.lat, hX.kao, l6]; assumption)) ?_
  refine xw_aload_n (pc := 5) dX5_chain_5 0 rfl ?_
  refine xw_aload_n (pc := 6) dX5_chain_6 0 rfl ?_
  refine xw_callF (pc := 7) (xr_V (as := []) ok_X5_prevailing rfl (by decide) q750 q751 q752 (by first | (rw [hX.lt]; rfl) | (rw [x2.1.lt]; rfl)) (by first | (rw [hX.lt]; rfl) | (rw [x2.1.lt]; rfl)) dX5_chain_7 rfl rfl (Nat.le_of_ble_eq_true rfl)) (SP_X5_prevailing (d := d + 17) x2.1) ?_
  intro g7 hc7 hm7
  have nlk2 : lk ≠ ka := fun e => by have h1 := hX.lt; rw [e, hX.kat] at h1; cases h1
  have elk := hc7.2.2.2.2.2 lk nlk2
  have F2 : xFr (oEq 6) 0 g g7 := (x2.2.tr (hc7.2.fr x2.1.kao6)).sub (fun _ h => h) (Nat.le_refl _)
  have y7 : xi g7 lk 6 = nI 0 := (xi_of elk 6).trans y1
  cases hn : prvK s H rr with
  | none =>
    have hch : (chn s (cov s wo k day feats) H rr) = [] := by unfold chn; rw [hn]
    show XW _ _ 10 [(0, _)] [.null, _] _ _
    refine xw_callU (pc := 10) (xr_V (as := [_]) ok_X5_goesOn rfl (by decide) q876 q878 qs11 (by rw [hc7.1.lt]; rfl) (by rw [hc7.1.lt]; rfl) dX5_chain_10 rfl rfl (Nat.le_of_ble_eq_true rfl)) (SP_X5_goesOn_0) ?_
    refine xw_aload_n (pc := 13) dX5_chain_13 0 rfl ?_
    refine xw_getNat (k := (0)) (pc := 14) fd_X5_140 dX5_chain_14 (by first | assumption | (simp [-List.getD_eq_getElem?_getD, xE_setI, xsz_setI, xsl_setI, xtag_setI, xown_setI, xlen_setI, xE_setR, xsz_setR, xsl_setR, xtag_setR, xown_setR, xlen_setR, xE_setW, xsz_setW, xsl_setW, xtag_setW, xown_setW, xlen_setW, xi_setR, xi_setW, xr_setI, xr_setW, xww_setI, xww_setR, xi_setI, xr_setR, xww_setW, xE_new, xsz_new, xsl_new, hc7.1.tx, hc7.1.xp, hc7.1.P.tag, hc7.1.P.f0, hc7.1.P.f1, hc7.1.P.f2, hc7.1.lt, hc7.1.l0, hc7.1.l1, hc7.1.l5, hc7.1.l2, hc7.1.l7, hc7.1.fat, hc7.1.kat, hc7.1.lat, hc7.1.kao, y7, xsub]; done) | (simp [-List.getD_eq_getElem?_getD, xE_setI, xsz_setI, xsl_setI, xtag_setI, xown_setI, xlen_setI, xE_setR, xsz_setR, xsl_setR, xtag_setR, xown_setR, xlen_setR, xE_setW, xsz_setW, xsl_setW, xtag_setW, xown_setW, xlen_setW, xi_setR, xi_setW, xr_setI, xr_setW, xww_setI, xww_setR, xi_setI, xr_setR, xww_setW, xE_new, xsz_new, xsl_new, hc7.1.tx, hc7.1.xp, hc7.1.P.tag, hc7.1.P.f0, hc7.1.P.f1, hc7.1.P.f2, hc7.1.lt, hc7.1.l0, hc7.1.l1, hc7.1.l5, hc7.1.l2, hc7.1.l7, hc7.1.fat, hc7.1.kat, hc7.1.lat, hc7.1.kao, y7] <;> rfl)) (by simp [-List.getD_eq_getElem?_getD, xE_setI, xsz_setI, xsl_setI, xtag_setI, xown_setI, xlen_setI, xE_setR, xsz_setR, xsl_setR, xtag_setR, xown_setR, xlen_setR, xE_setW, xsz_setW, xsl_setW, xtag_setW, xown_setW, xlen_setW, xi_setR, xi_setW, xr_setI, xr_setW, xww_setI, xww_setR, xi_setI, xr_setR, xww_setW, xE_new, xsz_new, xsl_new, hc7.1.tx, hc7.1.xp, hc7.1.P.tag, hc7.1.P.f0, hc7.1.P.f1, hc7.1.P.f2, hc7.1.lt, hc7.1.l0, hc7.1.l1, hc7.1.l5, hc7.1.l2, hc7.1.l7, hc7.1.fat, hc7.1.kat, hc7.1.lat, hc7.1.kao, y7]) ?_
    refine xw_iret (pc := 17) .int dX5_chain_17 rfl ?_ 
    rw [hch]
    exact ⟨rfl, hc7.1, F2, Nat.zero_le _, fun j hj => absurd hj (Nat.not_lt_zero j)⟩
  | some f =>
    have hf := prvK_lt hn
    have hch : (chn s (cov s wo k day feats) H rr) = chF s (cov s wo k day feats) H rr rr f := by unfold chn; rw [hn]
    have hd0 := rdep_0 (prvK_ma rr hn)
    have hlen := chF_len5 (C := (cov s wo k day feats)) (H := H) hX.P.wf rr f hf
    show XW _ _ 10 [(0, _)] [.ref ((aR Z).getD f 0), _] _ _
    refine xw_callH (pc := 10) (xr_V (as := [_]) ok_X5_goesOn rfl (by decide) q876 q878 qs11 (by rw [hc7.1.lt]; rfl) (by rw [hc7.1.lt]; rfl) dX5_chain_10 rfl rfl (Nat.le_of_ble_eq_true rfl)) (SP_X5_goesOnT rr f hf (by omega) 0 (d + 63) g7 (by omega) hc7.1 y7 hd0.symm) ?_
    intro g10 hc10 hm10
    refine xw_aload_n (pc := 13) dX5_chain_13 0 rfl ?_
    refine xw_getI (pc := 14) fd_X5_140 dX5_chain_14 (by first | assumption | (simp [-List.getD_eq_getElem?_getD, xE_setI, xsz_setI, xsl_setI, xtag_setI, xown_setI, xlen_setI, xE_setR, xsz_setR, xsl_setR, xtag_setR, xown_setR, xlen_setR, xE_setW, xsz_setW, xsl_setW, xtag_setW, xown_setW, xlen_setW, xi_setR, xi_setW, xr_setI, xr_setW, xww_setI, xww_setR, xi_setI, xr_setR, xww_setW, xE_new, xsz_new, xsl_new, hc7.1.tx, hc7.1.xp, hc7.1.P.tag, hc7.1.P.f0, hc7.1.P.f1, hc7.1.P.f2, hc7.1.lt, hc7.1.l0, hc7.1.l1, hc7.1.l5, hc7.1.l2, hc7.1.l7, hc7.1.fat, hc7.1.kat, hc7.1.lat, hc7.1.kao, hc10.1.tx, hc10.1.xp, hc10.1.P.tag, hc10.1.P.f0, hc10.1.P.f1, hc10.1.P.f2, hc10.1.lt, hc10.1.l0, hc10.1.l1, hc10.1.l5, hc10.1.l2, hc10.1.l7, hc10.1.fat, hc10.1.kat, hc10.1.lat, hc10.1.kao, xsub]; done) | (simp [-List.getD_eq_getElem?_getD, xE_setI, xsz_setI, xsl_setI, xtag_setI, xown_setI, xlen_setI, xE_setR, xsz_setR, xsl_setR, xtag_setR, xown_setR, xlen_setR, xE_setW, xsz_setW, xsl_setW, xtag_setW, xown_setW, xlen_setW, xi_setR, xi_setW, xr_setI, xr_setW, xww_setI, xww_setR, xi_setI, xr_setR, xww_setW, xE_new, xsz_new, xsl_new, hc7.1.tx, hc7.1.xp, hc7.1.P.tag, hc7.1.P.f0, hc7.1.P.f1, hc7.1.P.f2, hc7.1.lt, hc7.1.l0, hc7.1.l1, hc7.1.l5, hc7.1.l2, hc7.1.l7, hc7.1.fat, hc7.1.kat, hc7.1.lat, hc7.1.kao, hc10.1.tx, hc10.1.xp, hc10.1.P.tag, hc10.1.P.f0, hc10.1.P.f1, hc10.1.P.f2, hc10.1.lt, hc10.1.l0, hc10.1.l1, hc10.1.l5, hc10.1.l2, hc10.1.l7, hc10.1.fat, hc10.1.kat, hc10.1.lat, hc10.1.kao] <;> rfl)) ?_
    refine xw_iret (pc := 17) .int dX5_chain_17 rfl ?_ 
    rw [hch]
    obtain ⟨z1, z2, z3⟩ := hc10.2.2
    refine ⟨by rw [z1, Nat.zero_add], hc10.1, (F2.tr hc10.2.1).sub (fun _ h => h) (Nat.le_refl _), by omega, fun j hj => ?_⟩
    have e := z3 j hj
    rw [Nat.zero_add] at e
    exact e

theorem SP_X5_link {d : Nat} {g : xG} {lk la i : Nat} (h1 : xtag g lk = 4) (h2 : xr g lk 5 = some la) (h3 : xtag g la = 101) (h4 : i < xlen g la) (h5 : xlen g la = 5) : XM M_X5_link d [.ref lk, .int (nI i)] g (xOne (some (.int (xi g la i))) g) := by
  refine xm_of (by decide +kernel) (Nat.le_of_ble_eq_true rfl) ?_
  show XW _ _ 0 [(0, _), (1, _)] [] _ _
  refine xw_aload_n (pc := 0) dX5_link_0 0 rfl ?_
  refine xw_getS (b := la) (pc := 1) fd_X5_22 dX5_link_1 (by first | assumption | (simp [-List.getD_eq_getElem?_getD, xE_setI, xsz_setI, xsl_setI, xtag_setI, xown_setI, xlen_setI, xE_setR, xsz_setR, xsl_setR, xtag_setR, xown_setR, xlen_setR, xE_setW, xsz_setW, xsl_setW, xtag_setW, xown_setW, xlen_setW, xi_setR, xi_setW, xr_setI, xr_setW, xww_setI, xww_setR, xi_setI, xr_setR, xww_setW, xE_new, xsz_new, xsl_new, h1, h2, h3, xsub]; done) | (simp [-List.getD_eq_getElem?_getD, xE_setI, xsz_setI, xsl_setI, xtag_setI, xown_setI, xlen_setI, xE_setR, xsz_setR, xsl_setR, xtag_setR, xown_setR, xlen_setR, xE_setW, xsz_setW, xsl_setW, xtag_setW, xown_setW, xlen_setW, xi_setR, xi_setW, xr_setI, xr_setW, xww_setI, xww_setR, xi_setI, xr_setR, xww_setW, xE_new, xsz_new, xsl_new, h1, h2, h3] <;> rfl)) (by simp [-List.getD_eq_getElem?_getD, xE_setI, xsz_setI, xsl_setI, xtag_setI, xown_setI, xlen_setI, xE_setR, xsz_setR, xsl_setR, xtag_setR, xown_setR, xlen_setR, xE_setW, xsz_setW, xsl_setW, xtag_setW, xown_setW, xlen_setW, xi_setR, xi_setW, xr_setI, xr_setW, xww_setI, xww_setR, xi_setI, xr_setR, xww_setW, xE_new, xsz_new, xsl_new, h1, h2, h3]) ?_
  refine xw_iload_n (pc := 4) dX5_link_4 1 rfl ?_
  refine xw_iald (k := i) (pc := 5) dX5_link_5 (by simp [-List.getD_eq_getElem?_getD, xE_setI, xsz_setI, xsl_setI, xtag_setI, xown_setI, xlen_setI, xE_setR, xsz_setR, xsl_setR, xtag_setR, xown_setR, xlen_setR, xE_setW, xsz_setW, xsl_setW, xtag_setW, xown_setW, xlen_setW, xi_setR, xi_setW, xr_setI, xr_setW, xww_setI, xww_setR, xi_setI, xr_setR, xww_setW, xE_new, xsz_new, xsl_new, h1, h2, h3]) rfl (by omega) ?_
  refine xw_iret (pc := 6) .int dX5_link_6 rfl ?_ 
  exact ⟨rfl, rfl⟩

theorem lp_X5_chained {d : Nat} {g : xG} {lk la : Nat} {L : List Nat} {Q : Option Value ⊕ Nat → xG → Prop} (h1 : xtag g lk = 4) (h2 : xr g lk 5 = some la) (h3 : xtag g la = 101) (h5 : xlen g la = 5) (hL : L.length ≤ 5) (hv : ∀ j, j < L.length → xi g la j = nI (L.getD j 0)) (hQ : Q (.inl (some (.int (borL L L.length (nI 0))))) g) : ∀ (j i : Nat), L.length - i < j → i ≤ L.length → XW M_X5_chained d 9 [(3, .int (nI i)), (2, .int (borL L i (nI 0))), (1, .int (nI L.length)), (0, .ref lk)] [] g Q := by
  intro j
  induction j with
  | zero => intro i h; omega
  | succ j ih =>
    intro i hij hi
    have hst : borL L (i + 1) (nI 0) = borL L i (nI 0) ||| (nI 1 <<< (nI (L.getD i 0) &&& 31)) := rfl
    refine xw_iload_n (pc := 9) dX5_chained_9 0 rfl ?_
    refine xw_iload_n (pc := 10) dX5_chained_10 2 rfl ?_
    refine xw_icmp_ge (pc := 11) 31 dX5_chained_11 rfl (fun hb11 => ?_) (fun hb11 => ?_)
    · replace hb11 : L.length ≤ i := (nI_leI (a := L.length) (b := i) (by omega) (by omega)).mp hb11
      refine xw_iload_n (pc := 31) dX5_chained_31 1 rfl ?_
      refine xw_iret (pc := 32) .int dX5_chained_32 rfl ?_ 
      have ei : i = L.length := by omega
      rw [ei]
      exact hQ
    · replace hb11 : ¬ (L.length ≤ i) := mt (nI_leI (a := L.length) (b := i) (by omega) (by omega)).mpr hb11
      refine xw_iload_n (pc := 14) dX5_chained_14 1 rfl ?_
      refine xw_iconst (v := nI 1) (pc := 15) dX5_chained_15 rfl ?_
      refine xw_aload_n (pc := 16) dX5_chained_16 3 rfl ?_
      refine xw_getS (b := la) (pc := 17) fd_X5_22 dX5_chained_17 (by first | assumption | (simp [-List.getD_eq_getElem?_getD, xE_setI, xsz_setI, xsl_setI, xtag_setI, xown_setI, xlen_setI, xE_setR, xsz_setR, xsl_setR, xtag_setR, xown_setR, xlen_setR, xE_setW, xsz_setW, xsl_setW, xtag_setW, xown_setW, xlen_setW, xi_setR, xi_setW, xr_setI, xr_setW, xww_setI, xww_setR, xi_setI, xr_setR, xww_setW, xE_new, xsz_new, xsl_new, h1, h2, h3, xsub]; done) | (simp [-List.getD_eq_getElem?_getD, xE_setI, xsz_setI, xsl_setI, xtag_setI, xown_setI, xlen_setI, xE_setR, xsz_setR, xsl_setR, xtag_setR, xown_setR, xlen_setR, xE_setW, xsz_setW, xsl_setW, xtag_setW, xown_setW, xlen_setW, xi_setR, xi_setW, xr_setI, xr_setW, xww_setI, xww_setR, xi_setI, xr_setR, xww_setW, xE_new, xsz_new, xsl_new, h1, h2, h3] <;> rfl)) (by simp [-List.getD_eq_getElem?_getD, xE_setI, xsz_setI, xsl_setI, xtag_setI, xown_setI, xlen_setI, xE_setR, xsz_setR, xsl_setR, xtag_setR, xown_setR, xlen_setR, xE_setW, xsz_setW, xsl_setW, xtag_setW, xown_setW, xlen_setW, xi_setR, xi_setW, xr_setI, xr_setW, xww_setI, xww_setR, xi_setI, xr_setR, xww_setW, xE_new, xsz_new, xsl_new, h1, h2, h3]) ?_
      refine xw_iload_n (pc := 20) dX5_chained_20 0 rfl ?_
      refine xw_iald (k := i) (pc := 21) dX5_chained_21 (by simp [-List.getD_eq_getElem?_getD, xE_setI, xsz_setI, xsl_setI, xtag_setI, xown_setI, xlen_setI, xE_setR, xsz_setR, xsl_setR, xtag_setR, xown_setR, xlen_setR, xE_setW, xsz_setW, xsl_setW, xtag_setW, xown_setW, xlen_setW, xi_setR, xi_setW, xr_setI, xr_setW, xww_setI, xww_setR, xi_setI, xr_setR, xww_setW, xE_new, xsz_new, xsl_new, h1, h2, h3]) rfl (by omega) ?_
      rw [hv i (by omega)]
      refine xw_ishl (pc := 22) dX5_chained_22 ?_
      refine xw_ior (pc := 23) dX5_chained_23 ?_
      refine xw_istore_n (l' := [(2, _), (3, _), (1, _), (0, _)]) (pc := 24) dX5_chained_24 rfl (by decide) rfl ?_
      refine xw_iinc (v := nI (i + 1)) (l' := [(3, _), (2, _), (1, _), (0, _)]) (pc := 25) dX5_chained_25 1 rfl (nI_add _ 1) (by decide) rfl ?_
      refine xw_goto (pc := 28) 9 dX5_chained_28 rfl ?_
      have h9 := ih (i + 1) (by omega) (by omega)
      rw [hst] at h9
      exact h9
theorem SP_X5_chained {d : Nat} {g : xG} {x lk fa ka la p n rr ww k : Nat} {Z : xAd} {s : Nat → Int32} {day feats wo : Int32} {H : Nat → Bool} (hX : xCs g x lk fa ka la p Z s n rr ww k day feats wo H) : XM M_X5_chained (d + 65) [.ref lk] g (xVal (.int (borL (chn s (cov s wo k day feats) H rr) (chn s (cov s wo k day feats) H rr).length (nI 0))) (fun g' => xCs g' x lk fa ka la p Z s n rr ww k day feats wo H ∧ xFr (oEq 6) 0 g g')) := by
  refine xm_of (by decide +kernel) (Nat.le_of_ble_eq_true rfl) ?_
  show XW _ _ 0 [(0, _)] [] _ _
  refine xw_aload_n (pc := 0) dX5_chained_0 0 rfl ?_
  refine xw_callF (pc := 1) (xr_V (as := []) ok_X5_chain rfl (by decide) q872 q873 q874 (by rw [hX.lt]; rfl) (by rw [hX.lt]; rfl) dX5_chained_1 rfl rfl (Nat.le_of_ble_eq_true rfl)) (SP_X5_chain (d := d) hX) ?_
  intro g1 hc1 hm1
  refine xw_istore_n (l' := [(1, _), (0, _)]) (pc := 4) dX5_chained_4 rfl (by decide) rfl ?_
  refine xw_iconst (v := nI 0) (pc := 5) dX5_chained_5 rfl ?_
  refine xw_istore_n (l' := [(2, _), (1, _), (0, _)]) (pc := 6) dX5_chained_6 rfl (by decide) rfl ?_
  refine xw_iconst (v := nI 0) (pc := 7) dX5_chained_7 rfl ?_
  refine xw_istore_n (l' := [(3, _), (2, _), (1, _), (0, _)]) (pc := 8) dX5_chained_8 rfl (by decide) rfl ?_
  exact lp_X5_chained hc1.1.lt hc1.1.l5 hc1.1.lat hc1.1.lal hc1.2.2.1 hc1.2.2.2 ⟨rfl, hc1.1, hc1.2.1⟩ ((chn s (cov s wo k day feats) H rr).length + 1) 0 (by omega) (by omega)

