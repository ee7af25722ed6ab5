/-! CLASS 46: lambdas: counts over rules -/
set_option maxRecDepth 100000
theorem SP_X1_lambda_scopeOf_0 {d : Nat} {g : xG} {p n rr ww : Nat} {Z : xAd} {s : Nat → Int32} (hP : xPol g p Z s n rr ww) {r : Nat} {v : Int32} (hr : r < rr) : XM M_X1_lambda_scopeOf_0 d [.int v, .ref ((aR Z).getD r 0)] g (xOne (some (.int (bI (decide (s (23 + 20 * r + 1) = v))))) g) := by
  obtain ⟨u1, u2, u3, u4, u5, u6, u7, u8, u9, u10, u11, u12, u13⟩ := hP.ru hr
  have wr := hP.wf.ru hr
  have sb : xsub 90 (xtag g ((aR Z).getD r 0)) = true := xRu_x (hP.ru hr)
  refine xm_of (by decide +kernel) (Nat.le_of_ble_eq_true rfl) ?_
  show XW _ _ 0 [(0, _), (1, _)] [] _ _
  refine xw_aload_n (pc := 0) dX1_lambda_scopeOf_0_0 1 rfl ?_
  refine xw_getI (pc := 1) fd_X1_297 dX1_lambda_scopeOf_0_1 (by first | assumption | (simp [-List.getD_eq_getElem?_getD, xE_setI, xsz_setI, xsl_setI, xtag_setI, xown_setI, xlen_setI, xE_setR, xsz_setR, xsl_setR, xtag_setR, xown_setR, xlen_setR, xE_setW, xsz_setW, xsl_setW, xtag_setW, xown_setW, xlen_setW, xi_setR, xi_setW, xr_setI, xr_setW, xww_setI, xww_setR, xi_setI, xr_setR, xww_setW, xE_new, xsz_new, xsl_new, sb, xsub]; done) | (simp [-List.getD_eq_getElem?_getD, xE_setI, xsz_setI, xsl_setI, xtag_setI, xown_setI, xlen_setI, xE_setR, xsz_setR, xsl_setR, xtag_setR, xown_setR, xlen_setR, xE_setW, xsz_setW, xsl_setW, xtag_setW, xown_setW, xlen_setW, xi_setR, xi_setW, xr_setI, xr_setW, xww_setI, xww_setR, xi_setI, xr_setR, xww_setW, xE_new, xsz_new, xsl_new, sb] <;> rfl)) ?_
  rw [u3]
  refine xw_iload_n (pc := 4) dX1_lambda_scopeOf_0_4 0 rfl ?_
  refine xw_icmp_ne (pc := 5) 12 dX1_lambda_scopeOf_0_5 rfl (fun hb5 => ?_) (fun hb5 => ?_)
  · refine xw_iconst (v := nI 0) (pc := 12) dX1_lambda_scopeOf_0_12 rfl ?_
    refine xw_iret (pc := 13) .boolean dX1_lambda_scopeOf_0_13 rfl ?_ 
    first
    | exact ⟨by rw [decide_eq_true hb5]; rfl, rfl⟩
    | exact ⟨by rw [decide_eq_false hb5]; rfl, rfl⟩
    | exact ⟨by rw [decide_eq_true (Decidable.of_not_not hb5)]; rfl, rfl⟩
  · refine xw_iconst (v := nI 1) (pc := 8) dX1_lambda_scopeOf_0_8 rfl ?_
    refine xw_goto (pc := 9) 13 dX1_lambda_scopeOf_0_9 rfl ?_
    refine xw_iret (pc := 13) .boolean dX1_lambda_scopeOf_0_13 rfl ?_ 
    first
    | exact ⟨by rw [decide_eq_true hb5]; rfl, rfl⟩
    | exact ⟨by rw [decide_eq_false hb5]; rfl, rfl⟩
    | exact ⟨by rw [decide_eq_true (Decidable.of_not_not hb5)]; rfl, rfl⟩

theorem SP_X1_lambda_ruleOf_1 {d : Nat} {g : xG} {p n rr ww : Nat} {Z : xAd} {s : Nat → Int32} (hP : xPol g p Z s n rr ww) {r : Nat} {v : Int32} (hr : r < rr) : XM M_X1_lambda_ruleOf_1 (d + 4) [.int v, .ref ((aR Z).getD r 0)] g (xOne (some (.int (bI (decide (s (23 + 20 * r + 5) = v))))) g) := by
  obtain ⟨u1, u2, u3, u4, u5, u6, u7, u8, u9, u10, u11, u12, u13⟩ := hP.ru hr
  have wr := hP.wf.ru hr
  have sb : xsub 90 (xtag g ((aR Z).getD r 0)) = true := xRu_x (hP.ru hr)
  refine xm_of (by decide +kernel) (Nat.le_of_ble_eq_true rfl) ?_
  show XW _ _ 0 [(0, _), (1, _)] [] _ _
  refine xw_aload_n (pc := 0) dX1_lambda_ruleOf_1_0 1 rfl ?_
  refine xw_rof (pc := 1) u1 dX1_lambda_ruleOf_1_1 q1479 (Nat.le_of_ble_eq_true rfl) ?_
  rw [u11]
  refine xw_iload_n (pc := 4) dX1_lambda_ruleOf_1_4 0 rfl ?_
  refine xw_icmp_ne (pc := 5) 12 dX1_lambda_ruleOf_1_5 rfl (fun hb5 => ?_) (fun hb5 => ?_)
  · refine xw_iconst (v := nI 0) (pc := 12) dX1_lambda_ruleOf_1_12 rfl ?_
    refine xw_iret (pc := 13) .boolean dX1_lambda_ruleOf_1_13 rfl ?_ 
    first
    | exact ⟨by rw [decide_eq_true hb5]; rfl, rfl⟩
    | exact ⟨by rw [decide_eq_false hb5]; rfl, rfl⟩
    | exact ⟨by rw [decide_eq_true (Decidable.of_not_not hb5)]; rfl, rfl⟩
  · refine xw_iconst (v := nI 1) (pc := 8) dX1_lambda_ruleOf_1_8 rfl ?_
    refine xw_goto (pc := 9) 13 dX1_lambda_ruleOf_1_9 rfl ?_
    refine xw_iret (pc := 13) .boolean dX1_lambda_ruleOf_1_13 rfl ?_ 
    first
    | exact ⟨by rw [decide_eq_true hb5]; rfl, rfl⟩
    | exact ⟨by rw [decide_eq_false hb5]; rfl, rfl⟩
    | exact ⟨by rw [decide_eq_true (Decidable.of_not_not hb5)]; rfl, rfl⟩

theorem xRu_ma {g : xG} {s : Nat → Int32} {n r a o tl arr : Nat} {ts : List Nat} (h : xRu g s r a o tl arr ts) (hw : WFru s n r) (hr9 : r < 16) : (xtag g a = 7 ∧ isMa s r = true) ∨ (xtag g a = 6 ∧ isMa s r = false) := by
  obtain ⟨u1, u2, u3, u4, u5, u6, u7, u8, u9, u10, u11, u12, u13⟩ := h
  have h8 := hw.2.2.2.2.2.2.2.1
  unfold isMa
  rcases u1 with h6 | h7
  · right
    refine ⟨h6, ?_⟩
    unfold rEff at u13
    rw [if_pos h6] at u13
    rcases h8 with ⟨a1, a2⟩ | ⟨a1, a2⟩
    · obtain ⟨e, he⟩ := effO_some (g := g) (v := s (23 + 20 * r + 0)) (by rw [a2.1]; exact nI_pos (by have := a2.2; omega)) (Or.inr ⟨_, a2.2, a2.1⟩)
      rw [he] at u13
      cases u13
    · have e2 : rdep s r ≤ 4 := hw.2.2.2.2.2.2.1
      have e3 := a1.2
      exact decide_eq_false (by rw [a1.1]; exact nI_pos (by have := hr9; omega))
  · left
    refine ⟨h7, ?_⟩
    unfold rOf at u11
    rw [if_neg (by rw [h7]; decide)] at u11
    exact decide_eq_true (by rw [← u11]; exact neg1lt)
theorem SP_X1_lambda_account_3T {d : Nat} {g : xG} {s : Nat → Int32} {r a : Nat} (h9 : xtag g a = 7 ∧ isMa s r = true) : XM M_X1_lambda_account_3 d [.ref a] g (xOne (some (.int (bI (isMa s r)))) g) := by
  refine xm_of (by decide +kernel) (Nat.le_of_ble_eq_true rfl) ?_
  show XW _ _ 0 [(0, _)] [] _ _
  refine xw_aload_n (pc := 0) dX1_lambda_account_3_0 0 rfl ?_
  refine xw_instS (pc := 1) dX1_lambda_account_3_1 (by rw [h9.1]; exact q1325) (by rw [h9.1]; rfl) ?_
  refine xw_iret (pc := 4) .boolean dX1_lambda_account_3_4 rfl ?_ 
  exact ⟨by rw [h9.2]; rfl, rfl⟩

theorem SP_X1_lambda_account_3F {d : Nat} {g : xG} {s : Nat → Int32} {r a : Nat} (h9 : xtag g a = 6 ∧ isMa s r = false) : XM M_X1_lambda_account_3 d [.ref a] g (xOne (some (.int (bI (isMa s r)))) g) := by
  refine xm_of (by decide +kernel) (Nat.le_of_ble_eq_true rfl) ?_
  show XW _ _ 0 [(0, _)] [] _ _
  refine xw_aload_n (pc := 0) dX1_lambda_account_3_0 0 rfl ?_
  refine xw_instNo (pc := 1) dX1_lambda_account_3_1 q1325 (by rw [h9.1]; rfl) (by rw [h9.1]; decide) ?_
  refine xw_iret (pc := 4) .boolean dX1_lambda_account_3_4 rfl ?_ 
  exact ⟨by rw [h9.2]; rfl, rfl⟩

theorem SP_X1_lambda_account_3 {d : Nat} {g : xG} {p n rr ww : Nat} {Z : xAd} {s : Nat → Int32} (hP : xPol g p Z s n rr ww) {r : Nat} (hr : r < rr) : XM M_X1_lambda_account_3 d [.ref ((aR Z).getD r 0)] g (xOne (some (.int (bI (isMa s r)))) g) := by
  have r16 := hP.wf.r16
  rcases xRu_ma (hP.ru hr) (hP.wf.ru hr) (by omega) with h | h
  · exact SP_X1_lambda_account_3T h
  · exact SP_X1_lambda_account_3F h
theorem SP_X1_lambda_account_4 {d : Nat} {g : xG} {p n rr ww : Nat} {Z : xAd} {s : Nat → Int32} (hP : xPol g p Z s n rr ww) {r : Nat} (hr : r < rr) : XM M_X1_lambda_account_4 (d + 4) [.ref ((aR Z).getD r 0)] g (xOne (some (.int (s (23 + 20 * r + 7)))) g) := by
  obtain ⟨u1, u2, u3, u4, u5, u6, u7, u8, u9, u10, u11, u12, u13⟩ := hP.ru hr
  have wr := hP.wf.ru hr
  have sb : xsub 90 (xtag g ((aR Z).getD r 0)) = true := xRu_x (hP.ru hr)
  refine xm_of (by decide +kernel) (Nat.le_of_ble_eq_true rfl) ?_
  show XW _ _ 0 [(0, _)] [] _ _
  refine xw_aload_n (pc := 0) dX1_lambda_account_4_0 0 rfl ?_
  refine xw_getS (b := (aTl Z r)) (pc := 1) fd_X1_262 dX1_lambda_account_4_1 (by first | assumption | (simp [-List.getD_eq_getElem?_getD, xE_setI, xsz_setI, xsl_setI, xtag_setI, xown_setI, xlen_setI, xE_setR, xsz_setR, xsl_setR, xtag_setR, xown_setR, xlen_setR, xE_setW, xsz_setW, xsl_setW, xtag_setW, xown_setW, xlen_setW, xi_setR, xi_setW, xr_setI, xr_setW, xww_setI, xww_setR, xi_setI, xr_setR, xww_setW, xE_new, xsz_new, xsl_new, sb, u8, xsub]; done) | (simp [-List.getD_eq_getElem?_getD, xE_setI, xsz_setI, xsl_setI, xtag_setI, xown_setI, xlen_setI, xE_setR, xsz_setR, xsl_setR, xtag_setR, xown_setR, xlen_setR, xE_setW, xsz_setW, xsl_setW, xtag_setW, xown_setW, xlen_setW, xi_setR, xi_setW, xr_setI, xr_setW, xww_setI, xww_setR, xi_setI, xr_setR, xww_setW, xE_new, xsz_new, xsl_new, sb, u8] <;> rfl)) (by simp [-List.getD_eq_getElem?_getD, xE_setI, xsz_setI, xsl_setI, xtag_setI, xown_setI, xlen_setI, xE_setR, xsz_setR, xsl_setR, xtag_setR, xown_setR, xlen_setR, xE_setW, xsz_setW, xsl_setW, xtag_setW, xown_setW, xlen_setW, xi_setR, xi_setW, xr_setI, xr_setW, xww_setI, xww_setR, xi_setI, xr_setR, xww_setW, xE_new, xsz_new, xsl_new, sb, u8]) ?_
  refine xw_callV (pc := 4) (xr_V (as := []) ok_J2_size rfl (by decide) q701 q702 q703 (by rw [u9.1]; rfl) (by rw [u9.1]; rfl) dX1_lambda_account_4_4 rfl rfl (Nat.le_of_ble_eq_true rfl)) (SP_J2_size u9) ?_
  rw [u10.1, ← wr.2.2.2.2.2.1.1]
  refine xw_iret (pc := 7) .int dX1_lambda_account_4_7 rfl ?_ 
  exact ⟨rfl, rfl⟩

theorem SP_X2_lambda_count_0 {d : Nat} {g : xG} {M' : xM} {as : List Value} {b rl : Nat} {P : Bool} (hrun : xRunL M_X2_lambda_count_0 M' .boolean d 2 g [.ref rl, .ref b] [] as) (hc : XM M' d as g (xOne (some (.int (bI P))) g)) : XM M_X2_lambda_count_0 (d + 2) [.ref b, .ref rl] g (xOne (some (.int (bI P))) g) := by
  refine xm_of (by decide +kernel) (Nat.le_of_ble_eq_true rfl) ?_
  show XW _ _ 0 [(0, _), (1, _)] [] _ _
  refine xw_aload_n (pc := 0) dX2_lambda_count_0_0 0 rfl ?_
  refine xw_aload_n (pc := 1) dX2_lambda_count_0_1 1 rfl ?_
  refine xw_callLam (pc := 2) (hrun) (hc) ?_
  intro rs9 g9 h9 hm9
  obtain ⟨rfl, rfl⟩ := h9
  refine ⟨_, rfl, xnB _, ?_⟩
  refine xw_if_eq (pc := 7) 14 dX2_lambda_count_0_7 rfl (fun hb7 => ?_) (fun hb7 => ?_)
  · replace hb7 := bI_0.mp hb7
    refine xw_iconst (v := nI 0) (pc := 14) dX2_lambda_count_0_14 rfl ?_
    refine xw_iret (pc := 15) .int dX2_lambda_count_0_15 rfl ?_ 
    rw [hb7]
    exact ⟨rfl, rfl⟩
  · replace hb7 := bI_n0.mp hb7
    refine xw_iconst (v := nI 1) (pc := 10) dX2_lambda_count_0_10 rfl ?_
    refine xw_goto (pc := 11) 15 dX2_lambda_count_0_11 rfl ?_
    refine xw_iret (pc := 15) .int dX2_lambda_count_0_15 rfl ?_ 
    rw [hb7]
    exact ⟨rfl, rfl⟩

/-- an object that asks of a rule: it answers P -/
def xAsk (g : xG) (d b rr : Nat) (Z : xAd) (P : Nat → Bool) : Prop := ∀ r, r < rr → XM M_X2_lambda_count_0 d [.ref b, .ref ((aR Z).getD r 0)] g (xOne (some (.int (bI (P r)))) g)
theorem xAsk_72 {d : Nat} {g : xG} {p n rr ww : Nat} {Z : xAd} {s : Nat → Int32} (hP : xPol g p Z s n rr ww) {b : Nat} (ht : xtag g b = 72) (ho : xown g b ≠ 0) (hle : 1 ≤ xlen g b) : xAsk g (d + 6) b rr Z (fun r => decide (s (23 + 20 * r + 1) = xi g b 0)) := fun r hr =>
  SP_X2_lambda_count_0 (d := d + 4) (xr_L72 q1233 ht ho hle dX2_lambda_count_0_2 (Nat.le_of_ble_eq_true rfl)) (SP_X1_lambda_scopeOf_0 (d := d + 4) hP hr)
theorem xAsk_74 {d : Nat} {g : xG} {p n rr ww : Nat} {Z : xAd} {s : Nat → Int32} (hP : xPol g p Z s n rr ww) {b : Nat} (ht : xtag g b = 74) (ho : xown g b ≠ 0) (hle : 1 ≤ xlen g b) : xAsk g (d + 6) b rr Z (fun r => decide (s (23 + 20 * r + 5) = xi g b 0)) := fun r hr =>
  SP_X2_lambda_count_0 (d := d + 4) (xr_L74 q1233 ht ho hle dX2_lambda_count_0_2 (Nat.le_of_ble_eq_true rfl)) (SP_X1_lambda_ruleOf_1 hP hr)
theorem xAsk_76 {d : Nat} {g : xG} {p n rr ww : Nat} {Z : xAd} {s : Nat → Int32} (hP : xPol g p Z s n rr ww) : xAsk g (d + 6) ((xE g).2.2.1 76) rr Z (isMa s) := fun r hr =>
  SP_X2_lambda_count_0 (d := d + 4) (xr_L76 q1233 dX2_lambda_count_0_2 (Nat.le_of_ble_eq_true rfl)) (SP_X1_lambda_account_3 (d := d + 4) hP hr)
def sumF (f : Nat → Int32) : Nat → Int32
  | 0 => nI 0
  | k + 1 => sumF f k + f k
theorem sumF_B (P : Nat → Bool) : ∀ k, sumF (fun r => bI (P r)) k = nI (cntB P k)
  | 0 => rfl
  | k + 1 => by
    show sumF _ k + bI (P k) = nI (cntB P k + if P k = true then 1 else 0)
    rw [sumF_B P k]
    cases P k
    · exact nI_add _ 0
    · exact nI_add _ 1
theorem sumF_T (s : Nat → Int32) : ∀ k, sumF (fun r => s (23 + 20 * r + 7)) k = sumT s k
  | 0 => rfl
  | k + 1 => congrArg (· + s (23 + 20 * k + 7)) (sumF_T s k)
theorem lp_X2_sum {d : Nat} {g : xG} {p n rr ww : Nat} {Z : xAd} {s : Nat → Int32} (hP : xPol g p Z s n rr ww) {c : Nat} {f : Nat → Int32} (hcall : ∀ r, r < rr → ∀ (l : List (Nat × Value)) (rest : List Value) (Q : Option Value ⊕ Nat → xG → Prop), (rest.map fun v => v.category).sum ≤ 8 → XW M_X2_sum (d + 4) 33 l (.int (f r) :: rest) g Q → XW M_X2_sum (d + 4) 28 l (.ref ((aR Z).getD r 0) :: .ref c :: rest) g Q) : ∀ (j k : Nat), rr - k < j → k ≤ rr → XW M_X2_sum (d + 4) 4 [(3, .int (nI k)), (2, .int (sumF f k)), (1, .ref c), (0, .ref p)] [] g (xOne (some (.int (sumF f rr))) g) := by
  have hlr := hP.lr
  have r16 := hP.wf.r16
  have tpp := hP.tag
  have fp1 := hP.f1
  intro j
  induction j with
  | zero => intro k h; omega
  | succ j ih =>
  intro k hj hk
  refine xw_iload_n (pc := 4) dX2_sum_4 0 rfl ?_
  refine xw_aload_n (pc := 5) dX2_sum_5 3 rfl ?_
  refine xw_getS (b := (aL Z 2)) (pc := 6) fd_X2_20 dX2_sum_6 (by first | assumption | (simp [-List.getD_eq_getElem?_getD, xE_setI, xsz_setI, xsl_setI, xtag_setI, xown_setI, xlen_setI, xE_setR, xsz_setR, xsl_setR, xtag_setR, xown_setR, xlen_setR, xE_setW, xsz_setW, xsl_setW, xtag_setW, xown_setW, xlen_setW, xi_setR, xi_setW, xr_setI, xr_setW, xww_setI, xww_setR, xi_setI, xr_setR, xww_setW, xE_new, xsz_new, xsl_new, tpp, fp1, xsub]; done) | (simp [-List.getD_eq_getElem?_getD, xE_setI, xsz_setI, xsl_setI, xtag_setI, xown_setI, xlen_setI, xE_setR, xsz_setR, xsl_setR, xtag_setR, xown_setR, xlen_setR, xE_setW, xsz_setW, xsl_setW, xtag_setW, xown_setW, xlen_setW, xi_setR, xi_setW, xr_setI, xr_setW, xww_setI, xww_setR, xi_setI, xr_setR, xww_setW, xE_new, xsz_new, xsl_new, tpp, fp1] <;> rfl)) (by simp [-List.getD_eq_getElem?_getD, xE_setI, xsz_setI, xsl_setI, xtag_setI, xown_setI, xlen_setI, xE_setR, xsz_setR, xsl_setR, xtag_setR, xown_setR, xlen_setR, xE_setW, xsz_setW, xsl_setW, xtag_setW, xown_setW, xlen_setW, xi_setR, xi_setW, xr_setI, xr_setW, xww_setI, xww_setR, xi_setI, xr_setR, xww_setW, xE_new, xsz_new, xsl_new, tpp, fp1]) ?_
  refine xw_callV (pc := 9) (xr_V (as := []) ok_J2_size rfl (by decide) q910 q702 q703 (by rw [hP.l1.1]; rfl) (by rw [hP.l1.1]; rfl) dX2_sum_9 rfl rfl (Nat.le_of_ble_eq_true rfl)) (SP_J2_size hP.l1) ?_
  refine xw_icmp_ge (pc := 12) 41 dX2_sum_12 rfl (fun hb12 => ?_) (fun hb12 => ?_)
  · replace hb12 : (aR Z).length ≤ k := (nI_leI (a := (aR Z).length) (b := k) (by omega) (by omega)).mp hb12
    refine xw_iload_n (pc := 41) dX2_sum_41 1 rfl ?_
    refine xw_iret (pc := 42) .int dX2_sum_42 rfl ?_ 
    have e : k = rr := by omega
    rw [e]
    exact ⟨rfl, rfl⟩
  · replace hb12 : ¬ ((aR Z).length ≤ k) := mt (nI_leI (a := (aR Z).length) (b := k) (by omega) (by omega)).mpr hb12
    have hkr : k < rr := by omega
    refine xw_iload_n (pc := 15) dX2_sum_15 1 rfl ?_
    refine xw_aload_n (pc := 16) dX2_sum_16 2 rfl ?_
    refine xw_aload_n (pc := 17) dX2_sum_17 3 rfl ?_
    refine xw_getS (b := (aL Z 2)) (pc := 18) fd_X2_20 dX2_sum_18 (by first | assumption | (simp [-List.getD_eq_getElem?_getD, xE_setI, xsz_setI, xsl_setI, xtag_setI, xown_setI, xlen_setI, xE_setR, xsz_setR, xsl_setR, xtag_setR, xown_setR, xlen_setR, xE_setW, xsz_setW, xsl_setW, xtag_setW, xown_setW, xlen_setW, xi_setR, xi_setW, xr_setI, xr_setW, xww_setI, xww_setR, xi_setI, xr_setR, xww_setW, xE_new, xsz_new, xsl_new, tpp, fp1, xsub]; done) | (simp [-List.getD_eq_getElem?_getD, xE_setI, xsz_setI, xsl_setI, xtag_setI, xown_setI, xlen_setI, xE_setR, xsz_setR, xsl_setR, xtag_setR, xown_setR, xlen_setR, xE_setW, xsz_setW, xsl_setW, xtag_setW, xown_setW, xlen_setW, xi_setR, xi_setW, xr_setI, xr_setW, xww_setI, xww_setR, xi_setI, xr_setR, xww_setW, xE_new, xsz_new, xsl_new, tpp, fp1] <;> rfl)) (by simp [-List.getD_eq_getElem?_getD, xE_setI, xsz_setI, xsl_setI, xtag_setI, xown_setI, xlen_setI, xE_setR, xsz_setR, xsl_setR, xtag_setR, xown_setR, xlen_setR, xE_setW, xsz_setW, xsl_setW, xtag_setW, xown_setW, xlen_setW, xi_setR, xi_setW, xr_setI, xr_setW, xww_setI, xww_setR, xi_setI, xr_setR, xww_setW, xE_new, xsz_new, xsl_new, tpp, fp1]) ?_
    refine xw_iload_n (pc := 21) dX2_sum_21 0 rfl ?_
    refine xw_callV (pc := 22) (xr_V (as := [_]) ok_J2_get rfl (by decide) q911 q706 q707 (by rw [hP.l1.1]; rfl) (by rw [hP.l1.1]; rfl) dX2_sum_22 rfl rfl (Nat.le_of_ble_eq_true rfl)) (SP_J2_get hP.l1 k (by omega)) ?_
    refine xw_chkR (pc := 25) dX2_sum_25 q912 (by exact (hP.ru hkr).1) ?_
    refine hcall k hkr _ _ _ (Nat.le_of_ble_eq_true rfl) ?_
    refine xw_iadd (pc := 33) dX2_sum_33 ?_
    refine xw_istore_n (l' := [(2, _), (3, _), (1, _), (0, _)]) (pc := 34) dX2_sum_34 rfl (by decide) rfl ?_
    refine xw_iinc (v := nI (k + 1)) (l' := [(3, _), (2, _), (1, _), (0, _)]) (pc := 35) dX2_sum_35 1 rfl (nI_add _ 1) (by decide) rfl ?_
    refine xw_goto (pc := 38) 4 dX2_sum_38 rfl ?_
    exact ih (k + 1) (by omega) (by omega)
theorem SP_X2_sum {d : Nat} {g : xG} {p n rr ww : Nat} {Z : xAd} {s : Nat → Int32} (hP : xPol g p Z s n rr ww) {c : Nat} {f : Nat → Int32} (hcall : ∀ r, r < rr → ∀ (l : List (Nat × Value)) (rest : List Value) (Q : Option Value ⊕ Nat → xG → Prop), (rest.map fun v => v.category).sum ≤ 8 → XW M_X2_sum (d + 4) 33 l (.int (f r) :: rest) g Q → XW M_X2_sum (d + 4) 28 l (.ref ((aR Z).getD r 0) :: .ref c :: rest) g Q) : XM M_X2_sum (d + 4) [.ref p, .ref c] g (xOne (some (.int (sumF f rr))) g) := by
  refine xm_of (by decide +kernel) (Nat.le_of_ble_eq_true rfl) ?_
  show XW _ _ 0 [(0, _), (1, _)] [] _ _
  refine xw_iconst (v := nI 0) (pc := 0) dX2_sum_0 rfl ?_
  refine xw_istore_n (l' := [(2, _), (0, _), (1, _)]) (pc := 1) dX2_sum_1 rfl (by decide) rfl ?_
  refine xw_iconst (v := nI 0) (pc := 2) dX2_sum_2 rfl ?_
  refine xw_istore_n (l' := [(3, _), (2, _), (0, _), (1, _)]) (pc := 3) dX2_sum_3 rfl (by decide) rfl ?_
  refine xw_pick (pc := 4) (l' := [(3, _), (2, _), (1, _), (0, _)]) [0, 1, 3, 2] rfl ?_
  exact lp_X2_sum hP hcall (rr + 1) 0 (by omega) (by omega)

theorem SP_X2_count {d : Nat} {g : xG} {p n rr ww : Nat} {Z : xAd} {s : Nat → Int32} (hP : xPol g p Z s n rr ww) {b : Nat} {P : Nat → Bool} (hA : xAsk (xNew g (xLm 73 13 1 (fun _ => 0) (fun _ => some b)) 1) (d + 6) b rr Z P) : XM M_X2_count (d + 9) [.ref p, .ref b] g (xOne (some (.int (nI (cntB P rr)))) (xNew g (xLm 73 13 1 (fun _ => 0) (fun _ => some b)) 1)) := by
  have hP1 : xPol (xNew g (xLm 73 13 1 (fun _ => 0) (fun _ => some b)) 1) p Z s n rr ww := hP.fr ((xFr.rf (O := oNo) (n := 0)).nw) (fun o _ h => h) (by unfold oNo; exact id)
  have k1 : xtag (xNew g (xLm 73 13 1 (fun _ => 0) (fun _ => some b)) 1) (xsz g) = 73 := (xtag_newS rfl).trans rfl
  have k2 : xown (xNew g (xLm 73 13 1 (fun _ => 0) (fun _ => some b)) 1) (xsz g) ≠ 0 := by rw [xown_newS rfl]; show (13 : Nat) ≠ 0; decide
  have k3 : 1 ≤ xlen (xNew g (xLm 73 13 1 (fun _ => 0) (fun _ => some b)) 1) (xsz g) := by rw [xlen_newS rfl]; show 1 ≤ (1 : Nat); decide
  have k4 : xr (xNew g (xLm 73 13 1 (fun _ => 0) (fun _ => some b)) 1) (xsz g) 0 = some b := (xr_newS rfl).trans rfl
  refine xm_of (by decide +kernel) (Nat.le_of_ble_eq_true rfl) ?_
  show XW _ _ 0 [(0, _), (1, _)] [] _ _
  refine xw_aload_n (pc := 0) dX2_count_0 0 rfl ?_
  refine xw_aload_n (pc := 1) dX2_count_1 1 rfl ?_
  refine xw_lam73 (pc := 2) 13 (by decide) (List.mem_of_getElem? (i := 2) rfl) rfl dX2_count_2 (Nat.le_of_ble_eq_true rfl) ?_
  refine xw_callV (pc := 7) (xr_V (as := [_]) ok_X2_sum rfl (by decide) q1236 q1237 q1238 (by rw [hP1.tag]; rfl) (by rw [hP1.tag]; rfl) dX2_count_7 rfl rfl (Nat.le_of_ble_eq_true rfl)) (SP_X2_sum (d := d + 4) (f := fun r => bI (P r)) hP1 (fun r hr l rest Q h8 k => xw_callLam (xr_L73 k4 q1241 k1 k2 k3 dX2_sum_28 h8) (hA r hr) (fun rs9 g9 h9 _ => by obtain ⟨rfl, rfl⟩ := h9; exact ⟨_, rfl, rfl, k⟩))) ?_
  refine xw_iret (pc := 10) .int dX2_count_10 rfl ?_ 
  rw [sumF_B]
  exact ⟨rfl, rfl⟩

