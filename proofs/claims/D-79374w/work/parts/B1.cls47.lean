/-! CLASS 47: lambdas: counts over works; accounts -/
set_option maxRecDepth 100000
theorem SP_X1_lambda_account_5 {d : Nat} {g : xG} {x p lk fa ka la n rr ww : Nat} {Z : xAd} {S : xMS} (hM : xMn g x p lk fa ka la Z S n rr ww) {w : Nat} (hw : w < ww) : XM M_X1_lambda_account_5 (d + 74) [.ref x, .ref ((aW Z).getD w 0)] g (xVal (.int (bI (wRt (S 1) (-1) rr w))) (fun g' => xLb g' x lk fa ka la ∧ xFr (oEq 6) 0 g g')) := by
  refine xm_of (by decide +kernel) (Nat.le_of_ble_eq_true rfl) ?_
  show XW _ _ 0 [(0, _), (1, _)] [] _ _
  refine xw_aload_n (pc := 0) dX1_lambda_account_5_0 0 rfl ?_
  refine xw_aload_n (pc := 1) dX1_lambda_account_5_1 1 rfl ?_
  refine xw_callF (pc := 2) (xr_V (as := [_]) ok_X1_isRight rfl (by decide) q720 q722 qs4 (by rw [hM.tx]; rfl) (by rw [hM.tx]; rfl) dX1_lambda_account_5_2 rfl rfl (Nat.le_of_ble_eq_true rfl)) (SP_X1_isRight hM hw) ?_
  intro g2 hc2 hm2
  refine xw_if_eq (pc := 5) 12 dX1_lambda_account_5_5 rfl (fun hb5 => ?_) (fun hb5 => ?_)
  · replace hb5 := bI_0.mp hb5
    refine xw_iconst (v := nI 0) (pc := 12) dX1_lambda_account_5_12 rfl ?_
    refine xw_iret (pc := 13) .int dX1_lambda_account_5_13 rfl ?_ 
    rw [hb5]
    exact ⟨rfl, hc2⟩
  · replace hb5 := bI_n0.mp hb5
    refine xw_iconst (v := nI 1) (pc := 8) dX1_lambda_account_5_8 rfl ?_
    refine xw_goto (pc := 9) 13 dX1_lambda_account_5_9 rfl ?_
    refine xw_iret (pc := 13) .int dX1_lambda_account_5_13 rfl ?_ 
    rw [hb5]
    exact ⟨rfl, hc2⟩

theorem SP_X1_lambda_without_2 {d : Nat} {g : xG} {x p lk fa ka la n rr ww : Nat} {Z : xAd} {S : xMS} (hM : xMn g x p lk fa ka la Z S n rr ww) {w : Nat} {v : Int32} (hw : w < ww) : XM M_X1_lambda_without_2 (d + 74) [.ref x, .int v, .ref ((aW Z).getD w 0)] g (xVal (.int (bI (wRt (S 1) v rr w))) (fun g' => xLb g' x lk fa ka la ∧ xFr (oEq 6) 0 g g')) := by
  refine xm_of (by decide +kernel) (Nat.le_of_ble_eq_true rfl) ?_
  show XW _ _ 0 [(0, _), (1, _), (2, _)] [] _ _
  refine xw_aload_n (pc := 0) dX1_lambda_without_2_0 0 rfl ?_
  refine xw_aload_n (pc := 1) dX1_lambda_without_2_1 2 rfl ?_
  refine xw_iload_n (pc := 2) dX1_lambda_without_2_2 1 rfl ?_
  refine xw_callF (pc := 3) (xr_V (as := [_, _]) ok_X1_isRight_2 rfl (by decide) q724 q726 qs5 (by rw [hM.tx]; rfl) (by rw [hM.tx]; rfl) dX1_lambda_without_2_3 rfl rfl (Nat.le_of_ble_eq_true rfl)) (SP_X1_isRight_2 (d := d + 1) hM hw) ?_
  intro g3 hc3 hm3
  refine xw_if_eq (pc := 6) 13 dX1_lambda_without_2_6 rfl (fun hb6 => ?_) (fun hb6 => ?_)
  · replace hb6 := bI_0.mp hb6
    refine xw_iconst (v := nI 0) (pc := 13) dX1_lambda_without_2_13 rfl ?_
    refine xw_iret (pc := 14) .int dX1_lambda_without_2_14 rfl ?_ 
    rw [hb6]
    exact ⟨rfl, hc3⟩
  · replace hb6 := bI_n0.mp hb6
    refine xw_iconst (v := nI 1) (pc := 9) dX1_lambda_without_2_9 rfl ?_
    refine xw_goto (pc := 10) 14 dX1_lambda_without_2_10 rfl ?_
    refine xw_iret (pc := 14) .int dX1_lambda_without_2_14 rfl ?_ 
    rw [hb6]
    exact ⟨rfl, hc3⟩

/-- an object that tells of a work: it tells f -/
def xTold (M : xM) (d : Nat) (g : xG) (x lk fa ka la ww : Nat) (Z : xAd) (c : Nat) (f : Nat → Int32) : Prop := ∀ w, w < ww → ∀ g1, xLb g1 x lk fa ka la → xFr (oEq 6) 0 g g1 → ∀ (l : List (Nat × Value)) (rest : List Value) (Q : Option Value ⊕ Nat → xG → Prop), (rest.map fun v => v.category).sum ≤ 8 →
  (∀ g2, xLb g2 x lk fa ka la → xFr (oEq 6) 0 g g2 → XW M d 39 l (.int (f w) :: rest) g2 Q) → XW M d 34 l (.ref ((aW Z).getD w 0) :: .ref c :: rest) g1 Q
def orF (f : Nat → Int32) : Nat → Int32
  | 0 => nI 0
  | k + 1 => orF f k ||| f k
theorem borL_or (L : List Nat) : ∀ (k : Nat) (a : Int32), borL L k a = a ||| borL L k (nI 0)
  | 0, a => by
    show a = a ||| nI 0
    rw [show nI 0 = (0 : Int32) from rfl, Int32.or_zero]
  | k + 1, a => by
    show borL L k a ||| _ = a ||| (borL L k (nI 0) ||| _)
    rw [borL_or L k a, Int32.or_assoc]
theorem orF_W (F : Nat → List Nat) : ∀ k, orF (fun w => borL (F w) (F w).length (nI 0)) k = borW F k
  | 0 => rfl
  | k + 1 => by
    show orF _ k ||| borL (F k) (F k).length (nI 0) = borL (F k) (F k).length (borW F k)
    rw [orF_W F k]
    exact (borL_or _ _ _).symm
theorem cntB_not (P : Nat → Bool) : ∀ k, cntB P k + cntB (fun z => !P z) k = k
  | 0 => rfl
  | k + 1 => by
    have := cntB_not P k
    show cntB P k + (if P k = true then 1 else 0) + (cntB (fun z => !P z) k + (if (!P k) = true then 1 else 0)) = k + 1
    cases P k <;> simp <;> omega
theorem lp_X1_sum {d : Nat} {g : xG} {x p lk fa ka la n rr ww : Nat} {Z : xAd} {S : xMS} (hM : xMn g x p lk fa ka la Z S n rr ww) {c : Nat} {f : Nat → Int32} (hcall : xTold M_X1_sum (d + 76) g x lk fa ka la ww Z c f) : ∀ (j k : Nat) (gi : xG), ww - k < j → k ≤ ww → xLb gi x lk fa ka la → xFr (oEq 6) 0 g gi → XW M_X1_sum (d + 76) 4 [(3, .int (nI k)), (2, .int (sumF f k)), (1, .ref c), (0, .ref x)] [] gi (xVal (.int (sumF f ww)) (fun g' => xLb g' x lk fa ka la ∧ xFr (oEq 6) 0 g g')) := by
  intro j
  induction j with
  | zero => intro k gi h; omega
  | succ j ih =>
    intro k gi hj hk hB hF
    have hMi := hM.fr6 hF hB
    have w12 := hM.P.wf.w12
    have lw := hM.P.lw
    have htw : k < ww → xtag gi ((aW Z).getD k 0) = 14 := fun h => (hMi.P.wk h).1
    refine xw_iload_n (pc := 4) dX1_sum_4 0 rfl ?_
    refine xw_aload_n (pc := 5) dX1_sum_5 3 rfl ?_
    refine xw_getS (b := p) (pc := 6) fd_X1_10 dX1_sum_6 (by first | assumption | (simp [-List.getD_eq_getElem?_getD, xE_setI, xsz_setI, xsl_setI, xtag_setI, xown_setI, xlen_setI, xE_setR, xsz_setR, xsl_setR, xtag_setR, xown_setR, xlen_setR, xE_setW, xsz_setW, xsl_setW, xtag_setW, xown_setW, xlen_setW, xi_setR, xi_setW, xr_setI, xr_setW, xww_setI, xww_setR, xi_setI, xr_setR, xww_setW, xE_new, xsz_new, xsl_new, hMi.tx, hMi.xp, hMi.P.tag, hMi.P.f2, xsub]; done) | (simp [-List.getD_eq_getElem?_getD, xE_setI, xsz_setI, xsl_setI, xtag_setI, xown_setI, xlen_setI, xE_setR, xsz_setR, xsl_setR, xtag_setR, xown_setR, xlen_setR, xE_setW, xsz_setW, xsl_setW, xtag_setW, xown_setW, xlen_setW, xi_setR, xi_setW, xr_setI, xr_setW, xww_setI, xww_setR, xi_setI, xr_setR, xww_setW, xE_new, xsz_new, xsl_new, hMi.tx, hMi.xp, hMi.P.tag, hMi.P.f2] <;> rfl)) (by simp [-List.getD_eq_getElem?_getD, xE_setI, xsz_setI, xsl_setI, xtag_setI, xown_setI, xlen_setI, xE_setR, xsz_setR, xsl_setR, xtag_setR, xown_setR, xlen_setR, xE_setW, xsz_setW, xsl_setW, xtag_setW, xown_setW, xlen_setW, xi_setR, xi_setW, xr_setI, xr_setW, xww_setI, xww_setR, xi_setI, xr_setR, xww_setW, xE_new, xsz_new, xsl_new, hMi.tx, hMi.xp, hMi.P.tag, hMi.P.f2]) ?_
    refine xw_getS (b := (aL Z 4)) (pc := 9) fd_X1_374 dX1_sum_9 (by first | assumption | (simp [-List.getD_eq_getElem?_getD, xE_setI, xsz_setI, xsl_setI, xtag_setI, xown_setI, xlen_setI, xE_setR, xsz_setR, xsl_setR, xtag_setR, xown_setR, xlen_setR, xE_setW, xsz_setW, xsl_setW, xtag_setW, xown_setW, xlen_setW, xi_setR, xi_setW, xr_setI, xr_setW, xww_setI, xww_setR, xi_setI, xr_setR, xww_setW, xE_new, xsz_new, xsl_new, hMi.tx, hMi.xp, hMi.P.tag, hMi.P.f2, xsub]; done) | (simp [-List.getD_eq_getElem?_getD, xE_setI, xsz_setI, xsl_setI, xtag_setI, xown_setI, xlen_setI, xE_setR, xsz_setR, xsl_setR, xtag_setR, xown_setR, xlen_setR, xE_setW, xsz_setW, xsl_setW, xtag_setW, xown_setW, xlen_setW, xi_setR, xi_setW, xr_setI, xr_setW, xww_setI, xww_setR, xi_setI, xr_setR, xww_setW, xE_new, xsz_new, xsl_new, hMi.tx, hMi.xp, hMi.P.tag, hMi.P.f2] <;> rfl)) (by simp [-List.getD_eq_getElem?_getD, xE_setI, xsz_setI, xsl_setI, xtag_setI, xown_setI, xlen_setI, xE_setR, xsz_setR, xsl_setR, xtag_setR, xown_setR, xlen_setR, xE_setW, xsz_setW, xsl_setW, xtag_setW, xown_setW, xlen_setW, xi_setR, xi_setW, xr_setI, xr_setW, xww_setI, xww_setR, xi_setI, xr_setR, xww_setW, xE_new, xsz_new, xsl_new, hMi.tx, hMi.xp, hMi.P.tag, hMi.P.f2]) ?_
    refine xw_callV (pc := 12) (xr_V (as := []) ok_J2_size rfl (by decide) q701 q702 q703 (by rw [hMi.P.l2.1]; rfl) (by rw [hMi.P.l2.1]; rfl) dX1_sum_12 rfl rfl (Nat.le_of_ble_eq_true rfl)) (SP_J2_size hMi.P.l2) ?_
    refine xw_icmp_ge (pc := 15) 47 dX1_sum_15 rfl (fun hb15 => ?_) (fun hb15 => ?_)
    · replace hb15 : (aW Z).length ≤ k := (nI_leI (a := (aW Z).length) (b := k) (by omega) (by omega)).mp hb15
      refine xw_iload_n (pc := 47) dX1_sum_47 1 rfl ?_
      refine xw_iret (pc := 48) .int dX1_sum_48 rfl ?_ 
      have ei : k = ww := by omega
      rw [ei]
      exact ⟨rfl, hB, hF⟩
    · replace hb15 : ¬ ((aW Z).length ≤ k) := mt (nI_leI (a := (aW Z).length) (b := k) (by omega) (by omega)).mpr hb15
      have hil : k < ww := by omega
      refine xw_iload_n (pc := 18) dX1_sum_18 1 rfl ?_
      refine xw_aload_n (pc := 19) dX1_sum_19 2 rfl ?_
      refine xw_aload_n (pc := 20) dX1_sum_20 3 rfl ?_
      refine xw_getS (b := p) (pc := 21) fd_X1_10 dX1_sum_21 (by first | assumption | (simp [-List.getD_eq_getElem?_getD, xE_setI, xsz_setI, xsl_setI, xtag_setI, xown_setI, xlen_setI, xE_setR, xsz_setR, xsl_setR, xtag_setR, xown_setR, xlen_setR, xE_setW, xsz_setW, xsl_setW, xtag_setW, xown_setW, xlen_setW, xi_setR, xi_setW, xr_setI, xr_setW, xww_setI, xww_setR, xi_setI, xr_setR, xww_setW, xE_new, xsz_new, xsl_new, hMi.tx, hMi.xp, hMi.P.tag, hMi.P.f2, xsub]; done) | (simp [-List.getD_eq_getElem?_getD, xE_setI, xsz_setI, xsl_setI, xtag_setI, xown_setI, xlen_setI, xE_setR, xsz_setR, xsl_setR, xtag_setR, xown_setR, xlen_setR, xE_setW, xsz_setW, xsl_setW, xtag_setW, xown_setW, xlen_setW, xi_setR, xi_setW, xr_setI, xr_setW, xww_setI, xww_setR, xi_setI, xr_setR, xww_setW, xE_new, xsz_new, xsl_new, hMi.tx, hMi.xp, hMi.P.tag, hMi.P.f2] <;> rfl)) (by simp [-List.getD_eq_getElem?_getD, xE_setI, xsz_setI, xsl_setI, xtag_setI, xown_setI, xlen_setI, xE_setR, xsz_setR, xsl_setR, xtag_setR, xown_setR, xlen_setR, xE_setW, xsz_setW, xsl_setW, xtag_setW, xown_setW, xlen_setW, xi_setR, xi_setW, xr_setI, xr_setW, xww_setI, xww_setR, xi_setI, xr_setR, xww_setW, xE_new, xsz_new, xsl_new, hMi.tx, hMi.xp, hMi.P.tag, hMi.P.f2]) ?_
      refine xw_getS (b := (aL Z 4)) (pc := 24) fd_X1_374 dX1_sum_24 (by first | assumption | (simp [-List.getD_eq_getElem?_getD, xE_setI, xsz_setI, xsl_setI, xtag_setI, xown_setI, xlen_setI, xE_setR, xsz_setR, xsl_setR, xtag_setR, xown_setR, xlen_setR, xE_setW, xsz_setW, xsl_setW, xtag_setW, xown_setW, xlen_setW, xi_setR, xi_setW, xr_setI, xr_setW, xww_setI, xww_setR, xi_setI, xr_setR, xww_setW, xE_new, xsz_new, xsl_new, hMi.tx, hMi.xp, hMi.P.tag, hMi.P.f2, xsub]; done) | (simp [-List.getD_eq_getElem?_getD, xE_setI, xsz_setI, xsl_setI, xtag_setI, xown_setI, xlen_setI, xE_setR, xsz_setR, xsl_setR, xtag_setR, xown_setR, xlen_setR, xE_setW, xsz_setW, xsl_setW, xtag_setW, xown_setW, xlen_setW, xi_setR, xi_setW, xr_setI, xr_setW, xww_setI, xww_setR, xi_setI, xr_setR, xww_setW, xE_new, xsz_new, xsl_new, hMi.tx, hMi.xp, hMi.P.tag, hMi.P.f2] <;> rfl)) (by simp [-List.getD_eq_getElem?_getD, xE_setI, xsz_setI, xsl_setI, xtag_setI, xown_setI, xlen_setI, xE_setR, xsz_setR, xsl_setR, xtag_setR, xown_setR, xlen_setR, xE_setW, xsz_setW, xsl_setW, xtag_setW, xown_setW, xlen_setW, xi_setR, xi_setW, xr_setI, xr_setW, xww_setI, xww_setR, xi_setI, xr_setR, xww_setW, xE_new, xsz_new, xsl_new, hMi.tx, hMi.xp, hMi.P.tag, hMi.P.f2]) ?_
      refine xw_iload_n (pc := 27) dX1_sum_27 0 rfl ?_
      refine xw_callV (pc := 28) (xr_V (as := [_]) ok_J2_get rfl (by decide) q705 q706 q707 (by rw [hMi.P.l2.1]; rfl) (by rw [hMi.P.l2.1]; rfl) dX1_sum_28 rfl rfl (Nat.le_of_ble_eq_true rfl)) (SP_J2_get hMi.P.l2 k (by rw [lw]; exact hil)) ?_
      refine xw_chkS (pc := 31) dX1_sum_31 (by rw [htw hil]; exact q719) (by rw [htw hil]; rfl) ?_
      refine hcall k hil gi hB hF _ _ _ (Nat.le_of_ble_eq_true rfl) (fun g34 hB34 hF34 => ?_)
      refine xw_iadd (pc := 39) dX1_sum_39 ?_
      refine xw_istore_n (l' := [(2, _), (3, _), (1, _), (0, _)]) (pc := 40) dX1_sum_40 rfl (by decide) rfl ?_
      refine xw_iinc (v := nI (k + 1)) (l' := [(3, _), (2, _), (1, _), (0, _)]) (pc := 41) dX1_sum_41 1 rfl (nI_add _ 1) (by decide) rfl ?_
      refine xw_goto (pc := 44) 4 dX1_sum_44 rfl ?_
      exact ih (k + 1) g34 (by omega) (by omega) hB34 hF34
theorem SP_X1_sum {d : Nat} {g : xG} {x p lk fa ka la n rr ww : Nat} {Z : xAd} {S : xMS} (hM : xMn g x p lk fa ka la Z S n rr ww) {c : Nat} {f : Nat → Int32} (hcall : xTold M_X1_sum (d + 76) g x lk fa ka la ww Z c f) : XM M_X1_sum (d + 76) [.ref x, .ref c] g (xVal (.int (sumF f ww)) (fun g' => xLb g' x lk fa ka la ∧ xFr (oEq 6) 0 g g')) := by
  refine xm_of (by decide +kernel) (Nat.le_of_ble_eq_true rfl) ?_
  show XW _ _ 0 [(0, _), (1, _)] [] _ _
  refine xw_iconst (v := nI 0) (pc := 0) dX1_sum_0 rfl ?_
  refine xw_istore_n (l' := [(2, _), (0, _), (1, _)]) (pc := 1) dX1_sum_1 rfl (by decide) rfl ?_
  refine xw_iconst (v := nI 0) (pc := 2) dX1_sum_2 rfl ?_
  refine xw_istore_n (l' := [(3, _), (2, _), (0, _), (1, _)]) (pc := 3) dX1_sum_3 rfl (by decide) rfl ?_
  refine xw_pick (pc := 4) (l' := [(3, _), (2, _), (1, _), (0, _)]) [0, 1, 3, 2] rfl ?_
  exact lp_X1_sum hM hcall (ww + 1) 0 g (by omega) (by omega) hM.B xFr.rf

theorem lp_X1_together {d : Nat} {g : xG} {x p lk fa ka la n rr ww : Nat} {Z : xAd} {S : xMS} (hM : xMn g x p lk fa ka la Z S n rr ww) {c : Nat} {f : Nat → Int32} (hcall : xTold M_X1_together (d + 76) g x lk fa ka la ww Z c f) : ∀ (j k : Nat) (gi : xG), ww - k < j → k ≤ ww → xLb gi x lk fa ka la → xFr (oEq 6) 0 g gi → XW M_X1_together (d + 76) 4 [(3, .int (nI k)), (2, .int (orF f k)), (1, .ref c), (0, .ref x)] [] gi (xVal (.int (orF f ww)) (fun g' => xLb g' x lk fa ka la ∧ xFr (oEq 6) 0 g g')) := by
  intro j
  induction j with
  | zero => intro k gi h; omega
  | succ j ih =>
    intro k gi hj hk hB hF
    have hMi := hM.fr6 hF hB
    have w12 := hM.P.wf.w12
    have lw := hM.P.lw
    have htw : k < ww → xtag gi ((aW Z).getD k 0) = 14 := fun h => (hMi.P.wk h).1
    refine xw_iload_n (pc := 4) dX1_together_4 0 rfl ?_
    refine xw_aload_n (pc := 5) dX1_together_5 3 rfl ?_
    refine xw_getS (b := p) (pc := 6) fd_X1_10 dX1_together_6 (by first | assumption | (simp [-List.getD_eq_getElem?_getD, xE_setI, xsz_setI, xsl_setI, xtag_setI, xown_setI, xlen_setI, xE_setR, xsz_setR, xsl_setR, xtag_setR, xown_setR, xlen_setR, xE_setW, xsz_setW, xsl_setW, xtag_setW, xown_setW, xlen_setW, xi_setR, xi_setW, xr_setI, xr_setW, xww_setI, xww_setR, xi_setI, xr_setR, xww_setW, xE_new, xsz_new, xsl_new, hMi.tx, hMi.xp, hMi.P.tag, hMi.P.f2, xsub]; done) | (simp [-List.getD_eq_getElem?_getD, xE_setI, xsz_setI, xsl_setI, xtag_setI, xown_setI, xlen_setI, xE_setR, xsz_setR, xsl_setR, xtag_setR, xown_setR, xlen_setR, xE_setW, xsz_setW, xsl_setW, xtag_setW, xown_setW, xlen_setW, xi_setR, xi_setW, xr_setI, xr_setW, xww_setI, xww_setR, xi_setI, xr_setR, xww_setW, xE_new, xsz_new, xsl_new, hMi.tx, hMi.xp, hMi.P.tag, hMi.P.f2] <;> rfl)) (by simp [-List.getD_eq_getElem?_getD, xE_setI, xsz_setI, xsl_setI, xtag_setI, xown_setI, xlen_setI, xE_setR, xsz_setR, xsl_setR, xtag_setR, xown_setR, xlen_setR, xE_setW, xsz_setW, xsl_setW, xtag_setW, xown_setW, xlen_setW, xi_setR, xi_setW, xr_setI, xr_setW, xww_setI, xww_setR, xi_setI, xr_setR, xww_setW, xE_new, xsz_new, xsl_new, hMi.tx, hMi.xp, hMi.P.tag, hMi.P.f2]) ?_
    refine xw_getS (b := (aL Z 4)) (pc := 9) fd_X1_374 dX1_together_9 (by first | assumption | (simp [-List.getD_eq_getElem?_getD, xE_setI, xsz_setI, xsl_setI, xtag_setI, xown_setI, xlen_setI, xE_setR, xsz_setR, xsl_setR, xtag_setR, xown_setR, xlen_setR, xE_setW, xsz_setW, xsl_setW, xtag_setW, xown_setW, xlen_setW, xi_setR, xi_setW, xr_setI, xr_setW, xww_setI, xww_setR, xi_setI, xr_setR, xww_setW, xE_new, xsz_new, xsl_new, hMi.tx, hMi.xp, hMi.P.tag, hMi.P.f2, xsub]; done) | (simp [-List.getD_eq_getElem?_getD, xE_setI, xsz_setI, xsl_setI, xtag_setI, xown_setI, xlen_setI, xE_setR, xsz_setR, xsl_setR, xtag_setR, xown_setR, xlen_setR, xE_setW, xsz_setW, xsl_setW, xtag_setW, xown_setW, xlen_setW, xi_setR, xi_setW, xr_setI, xr_setW, xww_setI, xww_setR, xi_setI, xr_setR, xww_setW, xE_new, xsz_new, xsl_new, hMi.tx, hMi.xp, hMi.P.tag, hMi.P.f2] <;> rfl)) (by simp [-List.getD_eq_getElem?_getD, xE_setI, xsz_setI, xsl_setI, xtag_setI, xown_setI, xlen_setI, xE_setR, xsz_setR, xsl_setR, xtag_setR, xown_setR, xlen_setR, xE_setW, xsz_setW, xsl_setW, xtag_setW, xown_setW, xlen_setW, xi_setR, xi_setW, xr_setI, xr_setW, xww_setI, xww_setR, xi_setI, xr_setR, xww_setW, xE_new, xsz_new, xsl_new, hMi.tx, hMi.xp, hMi.P.tag, hMi.P.f2]) ?_
    refine xw_callV (pc := 12) (xr_V (as := []) ok_J2_size rfl (by decide) q701 q702 q703 (by rw [hMi.P.l2.1]; rfl) (by rw [hMi.P.l2.1]; rfl) dX1_together_12 rfl rfl (Nat.le_of_ble_eq_true rfl)) (SP_J2_size hMi.P.l2) ?_
    refine xw_icmp_ge (pc := 15) 47 dX1_together_15 rfl (fun hb15 => ?_) (fun hb15 => ?_)
    · replace hb15 : (aW Z).length ≤ k := (nI_leI (a := (aW Z).length) (b := k) (by omega) (by omega)).mp hb15
      refine xw_iload_n (pc := 47) dX1_together_47 1 rfl ?_
      refine xw_iret (pc := 48) .int dX1_together_48 rfl ?_ 
      have ei : k = ww := by omega
      rw [ei]
      exact ⟨rfl, hB, hF⟩
    · replace hb15 : ¬ ((aW Z).length ≤ k) := mt (nI_leI (a := (aW Z).length) (b := k) (by omega) (by omega)).mpr hb15
      have hil : k < ww := by omega
      refine xw_iload_n (pc := 18) dX1_together_18 1 rfl ?_
      refine xw_aload_n (pc := 19) dX1_together_19 2 rfl ?_
      refine xw_aload_n (pc := 20) dX1_together_20 3 rfl ?_
      refine xw_getS (b := p) (pc := 21) fd_X1_10 dX1_together_21 (by first | assumption | (simp [-List.getD_eq_getElem?_getD, xE_setI, xsz_setI, xsl_setI, xtag_setI, xown_setI, xlen_setI, xE_setR, xsz_setR, xsl_setR, xtag_setR, xown_setR, xlen_setR, xE_setW, xsz_setW, xsl_setW, xtag_setW, xown_setW, xlen_setW, xi_setR, xi_setW, xr_setI, xr_setW, xww_setI, xww_setR, xi_setI, xr_setR, xww_setW, xE_new, xsz_new, xsl_new, hMi.tx, hMi.xp, hMi.P.tag, hMi.P.f2, xsub]; done) | (simp [-List.getD_eq_getElem?_getD, xE_setI, xsz_setI, xsl_setI, xtag_setI, xown_setI, xlen_setI, xE_setR, xsz_setR, xsl_setR, xtag_setR, xown_setR, xlen_setR, xE_setW, xsz_setW, xsl_setW, xtag_setW, xown_setW, xlen_setW, xi_setR, xi_setW, xr_setI, xr_setW, xww_setI, xww_setR, xi_setI, xr_setR, xww_setW, xE_new, xsz_new, xsl_new, hMi.tx, hMi.xp, hMi.P.tag, hMi.P.f2] <;> rfl)) (by simp [-List.getD_eq_getElem?_getD, xE_setI, xsz_setI, xsl_setI, xtag_setI, xown_setI, xlen_setI, xE_setR, xsz_setR, xsl_setR, xtag_setR, xown_setR, xlen_setR, xE_setW, xsz_setW, xsl_setW, xtag_setW, xown_setW, xlen_setW, xi_setR, xi_setW, xr_setI, xr_setW, xww_setI, xww_setR, xi_setI, xr_setR, xww_setW, xE_new, xsz_new, xsl_new, hMi.tx, hMi.xp, hMi.P.tag, hMi.P.f2]) ?_
      refine xw_getS (b := (aL Z 4)) (pc := 24) fd_X1_374 dX1_together_24 (by first | assumption | (simp [-List.getD_eq_getElem?_getD, xE_setI, xsz_setI, xsl_setI, xtag_setI, xown_setI, xlen_setI, xE_setR, xsz_setR, xsl_setR, xtag_setR, xown_setR, xlen_setR, xE_setW, xsz_setW, xsl_setW, xtag_setW, xown_setW, xlen_setW, xi_setR, xi_setW, xr_setI, xr_setW, xww_setI, xww_setR, xi_setI, xr_setR, xww_setW, xE_new, xsz_new, xsl_new, hMi.tx, hMi.xp, hMi.P.tag, hMi.P.f2, xsub]; done) | (simp [-List.getD_eq_getElem?_getD, xE_setI, xsz_setI, xsl_setI, xtag_setI, xown_setI, xlen_setI, xE_setR, xsz_setR, xsl_setR, xtag_setR, xown_setR, xlen_setR, xE_setW, xsz_setW, xsl_setW, xtag_setW, xown_setW, xlen_setW, xi_setR, xi_setW, xr_setI, xr_setW, xww_setI, xww_setR, xi_setI, xr_setR, xww_setW, xE_new, xsz_new, xsl_new, hMi.tx, hMi.xp, hMi.P.tag, hMi.P.f2] <;> rfl)) (by simp [-List.getD_eq_getElem?_getD, xE_setI, xsz_setI, xsl_setI, xtag_setI, xown_setI, xlen_setI, xE_setR, xsz_setR, xsl_setR, xtag_setR, xown_setR, xlen_setR, xE_setW, xsz_setW, xsl_setW, xtag_setW, xown_setW, xlen_setW, xi_setR, xi_setW, xr_setI, xr_setW, xww_setI, xww_setR, xi_setI, xr_setR, xww_setW, xE_new, xsz_new, xsl_new, hMi.tx, hMi.xp, hMi.P.tag, hMi.P.f2]) ?_
      refine xw_iload_n (pc := 27) dX1_together_27 0 rfl ?_
      refine xw_callV (pc := 28) (xr_V (as := [_]) ok_J2_get rfl (by decide) q705 q706 q707 (by rw [hMi.P.l2.1]; rfl) (by rw [hMi.P.l2.1]; rfl) dX1_together_28 rfl rfl (Nat.le_of_ble_eq_true rfl)) (SP_J2_get hMi.P.l2 k (by rw [lw]; exact hil)) ?_
      refine xw_chkS (pc := 31) dX1_together_31 (by rw [htw hil]; exact q719) (by rw [htw hil]; rfl) ?_
      refine hcall k hil gi hB hF _ _ _ (Nat.le_of_ble_eq_true rfl) (fun g34 hB34 hF34 => ?_)
      refine xw_ior (pc := 39) dX1_together_39 ?_
      refine xw_istore_n (l' := [(2, _), (3, _), (1, _), (0, _)]) (pc := 40) dX1_together_40 rfl (by decide) rfl ?_
      refine xw_iinc (v := nI (k + 1)) (l' := [(3, _), (2, _), (1, _), (0, _)]) (pc := 41) dX1_together_41 1 rfl (nI_add _ 1) (by decide) rfl ?_
      refine xw_goto (pc := 44) 4 dX1_together_44 rfl ?_
      exact ih (k + 1) g34 (by omega) (by omega) hB34 hF34
theorem SP_X1_together {d : Nat} {g : xG} {x p lk fa ka la n rr ww : Nat} {Z : xAd} {S : xMS} (hM : xMn g x p lk fa ka la Z S n rr ww) {c : Nat} {f : Nat → Int32} (hcall : xTold M_X1_together (d + 76) g x lk fa ka la ww Z c f) : XM M_X1_together (d + 76) [.ref x, .ref c] g (xVal (.int (orF f ww)) (fun g' => xLb g' x lk fa ka la ∧ xFr (oEq 6) 0 g g')) := by
  refine xm_of (by decide +kernel) (Nat.le_of_ble_eq_true rfl) ?_
  show XW _ _ 0 [(0, _), (1, _)] [] _ _
  refine xw_iconst (v := nI 0) (pc := 0) dX1_together_0 rfl ?_
  refine xw_istore_n (l' := [(2, _), (0, _), (1, _)]) (pc := 1) dX1_together_1 rfl (by decide) rfl ?_
  refine xw_iconst (v := nI 0) (pc := 2) dX1_together_2 rfl ?_
  refine xw_istore_n (l' := [(3, _), (2, _), (0, _), (1, _)]) (pc := 3) dX1_together_3 rfl (by decide) rfl ?_
  refine xw_pick (pc := 4) (l' := [(3, _), (2, _), (1, _), (0, _)]) [0, 1, 3, 2] rfl ?_
  exact lp_X1_together hM hcall (ww + 1) 0 g (by omega) (by omega) hM.B xFr.rf

theorem xTold_78 {d : Nat} {g : xG} {x p lk fa ka la n rr ww : Nat} {Z : xAd} {S : xMS} (hM : xMn g x p lk fa ka la Z S n rr ww) {c : Nat} (k1 : xtag g c = 78) (k2 : xown g c ≠ 0) (k7 : xown g c ≠ 6) (k3 : 1 ≤ xlen g c) (k4 : xr g c 0 = some x) : xTold M_X1_sum (d + 76) g x lk fa ka la ww Z c (fun w => bI (wRt (S 1) (-1) rr w)) := by
  intro w hw g1 hB hF l rest Q h8 k
  have hM1 := hM.fr6 hF hB
  have hc : c < xsz g := xlt (by rw [k1]; decide)
  have nc : ¬ oEq 6 (xown g c) := by unfold oEq; exact k7
  have e4 : xr g1 c 0 = some x := (hF.r' hc nc).trans k4
  refine xw_callLam (xr_L78 (h0 := e4) (htx := hM1.tx) q895 ((hF.tag hc).trans k1) (by rw [hF.own hc]; exact k2) (by rw [hF.len hc]; exact k3) dX1_sum_34 h8) (SP_X1_lambda_account_5 hM1 hw) (fun rs9 g9 h9 _ => ?_)
  obtain ⟨e1, e2, e3⟩ := h9
  exact ⟨_, e1, rfl, k g9 e2 ((hF.tr e3).sub (fun _ h => h) (Nat.le_refl _))⟩
theorem xTold_71 {d : Nat} {g : xG} {x p lk fa ka la n rr ww : Nat} {Z : xAd} {S : xMS} (hM : xMn g x p lk fa ka la Z S n rr ww) {c : Nat} (k1 : xtag g c = 71) (k2 : xown g c ≠ 0) (k7 : xown g c ≠ 6) (k3 : 1 ≤ xlen g c) (k4 : xr g c 0 = some x) : xTold M_X1_together (d + 76) g x lk fa ka la ww Z c (fun w => borL (wCh (S 1) (-1) rr w) (wCh (S 1) (-1) rr w).length (nI 0)) := by
  intro w hw g1 hB hF l rest Q h8 k
  have hM1 := hM.fr6 hF hB
  have hc : c < xsz g := xlt (by rw [k1]; decide)
  have nc : ¬ oEq 6 (xown g c) := by unfold oEq; exact k7
  have e4 : xr g1 c 0 = some x := (hF.r' hc nc).trans k4
  refine xw_callLam (xr_L71 (h0 := e4) (htx := hM1.tx) q895 ((hF.tag hc).trans k1) (by rw [hF.own hc]; exact k2) (by rw [hF.len hc]; exact k3) dX1_together_34 h8) (SP_X1_chained (d := d + 3) hM1 hw) (fun rs9 g9 h9 _ => ?_)
  obtain ⟨e1, e2, e3⟩ := h9
  exact ⟨_, e1, rfl, k g9 e2 ((hF.tr e3).sub (fun _ h => h) (Nat.le_refl _))⟩
theorem xTold_75 {d : Nat} {g : xG} {x p lk fa ka la n rr ww : Nat} {Z : xAd} {S : xMS} (hM : xMn g x p lk fa ka la Z S n rr ww) {c : Nat} (k1 : xtag g c = 75) (k2 : xown g c ≠ 0) (k7 : xown g c ≠ 6) (k3 : 2 ≤ xlen g c) (k4 : xr g c 0 = some x) : xTold M_X1_sum (d + 76) g x lk fa ka la ww Z c (fun w => bI (wRt (S 1) (xi g c 1) rr w)) := by
  intro w hw g1 hB hF l rest Q h8 k
  have hM1 := hM.fr6 hF hB
  have hc : c < xsz g := xlt (by rw [k1]; decide)
  have nc : ¬ oEq 6 (xown g c) := by unfold oEq; exact k7
  have e4 : xr g1 c 0 = some x := (hF.r' hc nc).trans k4
  have e5 : xi g1 c 1 = xi g c 1 := (hF.i' hc nc).trans rfl
  refine xw_callLam (xr_L75 (h0 := e4) (htx := hM1.tx) q895 ((hF.tag hc).trans k1) (by rw [hF.own hc]; exact k2) (by rw [hF.len hc]; exact k3) dX1_sum_34 h8) ((by rw [e5]; exact SP_X1_lambda_without_2 hM1 hw)) (fun rs9 g9 h9 _ => ?_)
  obtain ⟨e1, e2, e3⟩ := h9
  exact ⟨_, e1, rfl, k g9 e2 ((hF.tr e3).sub (fun _ h => h) (Nat.le_refl _))⟩
theorem SP_X1_tested {d : Nat} {g : xG} {x p lk fa ka la n rr ww : Nat} {Z : xAd} {S : xMS} (hM : xMn g x p lk fa ka la Z S n rr ww) : XM M_X1_tested (d + 77) [.ref x] g (xVal (.int (borW (wCh (S 1) (-1) rr) ww)) (fun g' => xLb g' x lk fa ka la ∧ xFr (oEq 6) 2 g g')) := by
  have F1 : xFr oNo (0 + 2) g (xNew g (xLm 71 13 1 (fun _ => 0) (fun _ => some x)) 1) := (xFr.rf (O := oNo) (n := 0)).nw
  have hP1 : xPol (xNew g (xLm 71 13 1 (fun _ => 0) (fun _ => some x)) 1) p Z (S 1) n rr ww := hM.P.fr F1 (fun o _ h => h) (by unfold oNo; exact id)
  have hM1 : xMn (xNew g (xLm 71 13 1 (fun _ => 0) (fun _ => some x)) 1) x p lk fa ka la Z S n rr ww := hM.fr F1 (by unfold oKeep oNo; simp) hP1
  have k1 : xtag (xNew g (xLm 71 13 1 (fun _ => 0) (fun _ => some x)) 1) (xsz g) = 71 := (xtag_newS rfl).trans rfl
  have k2 : xown (xNew g (xLm 71 13 1 (fun _ => 0) (fun _ => some x)) 1) (xsz g) ≠ 0 := by rw [xown_newS rfl]; show (13 : Nat) ≠ 0; decide
  have k3 : 1 ≤ xlen (xNew g (xLm 71 13 1 (fun _ => 0) (fun _ => some x)) 1) (xsz g) := by rw [xlen_newS rfl]; exact Nat.le_refl _
  have k4 : xr (xNew g (xLm 71 13 1 (fun _ => 0) (fun _ => some x)) 1) (xsz g) 0 = some x := (xr_newS rfl).trans rfl
  have k7 : xown (xNew g (xLm 71 13 1 (fun _ => 0) (fun _ => some x)) 1) (xsz g) ≠ 6 := by rw [xown_newS rfl]; show (13 : Nat) ≠ 6; decide
  refine xm_of (by decide +kernel) (Nat.le_of_ble_eq_true rfl) ?_
  show XW _ _ 0 [(0, _)] [] _ _
  refine xw_aload_n (pc := 0) dX1_tested_0 0 rfl ?_
  refine xw_aload_n (pc := 1) dX1_tested_1 0 rfl ?_
  refine xw_lam71 (pc := 2) 13 (by decide) (List.mem_of_getElem? (i := 0) rfl) rfl dX1_tested_2 (Nat.le_of_ble_eq_true rfl) ?_
  refine xw_callF (pc := 7) (xr_V (as := [_]) ok_X1_together rfl (by decide) q890 q892 qs13 (by rw [hM1.tx]; rfl) (by rw [hM1.tx]; rfl) dX1_tested_7 rfl rfl (Nat.le_of_ble_eq_true rfl)) (SP_X1_together hM1 (xTold_71 hM1 k1 k2 k7 k3 k4)) ?_
  intro g7 hc7 hm7
  refine xw_iret (pc := 10) .int dX1_tested_10 rfl ?_ 
  rw [orF_W (wCh (S 1) (-1) rr)]
  exact ⟨rfl, hc7.1, ((F1.sub (fun _ h => h.elim) (Nat.le_refl _)).tr hc7.2).sub (fun _ h => h) (by omega)⟩

theorem SP_X1_without_F {d : Nat} {g : xG} {x p lk fa ka la n rr ww : Nat} {Z : xAd} {S : xMS} (hM : xMn g x p lk fa ka la Z S n rr ww) {v : Int32} (hv : ¬ inR v (nI 0) (nI rr - nI 1) = true) : XM M_X1_without (d + 77) [.ref x, .int v] g (xThr (xsz g) (xExc g 23)) := by
  have hlr := hM.P.lr
  have hvF : inR v (nI 0) (nI (aR Z).length - nI 1) = false := by rw [hlr]; exact Bool.eq_false_iff.mpr hv
  refine xm_of (by decide +kernel) (Nat.le_of_ble_eq_true rfl) ?_
  show XW _ _ 0 [(0, _), (1, _)] [] _ _
  refine xw_aload_n (pc := 0) dX1_without_0 0 rfl ?_
  refine xw_getS (b := p) (pc := 1) fd_X1_10 dX1_without_1 (by first | assumption | (simp [-List.getD_eq_getElem?_getD, xE_setI, xsz_setI, xsl_setI, xtag_setI, xown_setI, xlen_setI, xE_setR, xsz_setR, xsl_setR, xtag_setR, xown_setR, xlen_setR, xE_setW, xsz_setW, xsl_setW, xtag_setW, xown_setW, xlen_setW, xi_setR, xi_setW, xr_setI, xr_setW, xww_setI, xww_setR, xi_setI, xr_setR, xww_setW, xE_new, xsz_new, xsl_new, hM.tx, hM.xp, hM.l3, xsub]; done) | (simp [-List.getD_eq_getElem?_getD, xE_setI, xsz_setI, xsl_setI, xtag_setI, xown_setI, xlen_setI, xE_setR, xsz_setR, xsl_setR, xtag_setR, xown_setR, xlen_setR, xE_setW, xsz_setW, xsl_setW, xtag_setW, xown_setW, xlen_setW, xi_setR, xi_setW, xr_setI, xr_setW, xww_setI, xww_setR, xi_setI, xr_setR, xww_setW, xE_new, xsz_new, xsl_new, hM.tx, hM.xp, hM.l3] <;> rfl)) (by simp [-List.getD_eq_getElem?_getD, xE_setI, xsz_setI, xsl_setI, xtag_setI, xown_setI, xlen_setI, xE_setR, xsz_setR, xsl_setR, xtag_setR, xown_setR, xlen_setR, xE_setW, xsz_setW, xsl_setW, xtag_setW, xown_setW, xlen_setW, xi_setR, xi_setW, xr_setI, xr_setW, xww_setI, xww_setR, xi_setI, xr_setR, xww_setW, xE_new, xsz_new, xsl_new, hM.tx, hM.xp, hM.l3]) ?_
  refine xw_iload_n (pc := 4) dX1_without_4 1 rfl ?_
  refine xw_callV (pc := 5) (xr_V (as := [_]) ok_X2_isRule rfl (by decide) q1688 q1343 q1344 (by rw [hM.P.tag]; rfl) (by rw [hM.P.tag]; rfl) dX1_without_5 rfl rfl (Nat.le_of_ble_eq_true rfl)) ((show XM M_X2_isRule (d + 76) [.ref p, .int v] g (xOne (some (.int (bI false))) g) from hvF ▸ SP_X2_isRule hM.P.pl)) ?_
  refine xw_callX (pc := 8) (xr_S (as := [_]) ok_X1_checkIndex rfl (by decide) q1252 q1066 dX1_without_8 rfl rfl (Nat.le_of_ble_eq_true rfl)) (SP_X1_checkIndex_F) ?_
  exact xx_out0 rfl (by rw [xExc_tag]; decide) (by rw [xExc_tag]; decide) (by rw [xExc_own]; decide) ⟨rfl, rfl⟩

theorem SP_X1_without {d : Nat} {g : xG} {x p lk fa ka la n rr ww : Nat} {Z : xAd} {S : xMS} (hM : xMn g x p lk fa ka la Z S n rr ww) {r : Nat} (hr : r < rr) : XM M_X1_without (d + 77) [.ref x, .int (nI r)] g (xVal (.int (nI (ww - cntB (fun z => !wRt (S 1) (nI r) rr z) ww))) (fun g' => xLb g' x lk fa ka la ∧ xFr (oEq 6) 3 g g')) := by
  have hlr := hM.P.lr
  have r16 := hM.P.wf.r16
  have hvT : inR (nI r) (nI 0) (nI (aR Z).length - nI 1) = true := by rw [hlr]; exact inR_k (by omega) hr
  have F1 : xFr oNo (0 + 3) g (xNew g (xLm 75 13 2 (fun _ => nI r) (fun _ => some x)) 2) := (xFr.rf (O := oNo) (n := 0)).nw
  have hP1 : xPol (xNew g (xLm 75 13 2 (fun _ => nI r) (fun _ => some x)) 2) p Z (S 1) n rr ww := hM.P.fr F1 (fun o _ h => h) (by unfold oNo; exact id)
  have hM1 : xMn (xNew g (xLm 75 13 2 (fun _ => nI r) (fun _ => some x)) 2) x p lk fa ka la Z S n rr ww := hM.fr F1 (by unfold oKeep oNo; simp) hP1
  have k1 : xtag (xNew g (xLm 75 13 2 (fun _ => nI r) (fun _ => some x)) 2) (xsz g) = 75 := (xtag_newS rfl).trans rfl
  have k2 : xown (xNew g (xLm 75 13 2 (fun _ => nI r) (fun _ => some x)) 2) (xsz g) ≠ 0 := by rw [xown_newS rfl]; show (13 : Nat) ≠ 0; decide
  have k3 : 2 ≤ xlen (xNew g (xLm 75 13 2 (fun _ => nI r) (fun _ => some x)) 2) (xsz g) := by rw [xlen_newS rfl]; exact Nat.le_refl _
  have k4 : xr (xNew g (xLm 75 13 2 (fun _ => nI r) (fun _ => some x)) 2) (xsz g) 0 = some x := (xr_newS rfl).trans rfl
  have k7 : xown (xNew g (xLm 75 13 2 (fun _ => nI r) (fun _ => some x)) 2) (xsz g) ≠ 6 := by rw [xown_newS rfl]; show (13 : Nat) ≠ 6; decide
  refine xm_of (by decide +kernel) (Nat.le_of_ble_eq_true rfl) ?_
  show XW _ _ 0 [(0, _), (1, _)] [] _ _
  refine xw_aload_n (pc := 0) dX1_without_0 0 rfl ?_
  refine xw_getS (b := p) (pc := 1) fd_X1_10 dX1_without_1 (by first | assumption | (simp [-List.getD_eq_getElem?_getD, xE_setI, xsz_setI, xsl_setI, xtag_setI, xown_setI, xlen_setI, xE_setR, xsz_setR, xsl_setR, xtag_setR, xown_setR, xlen_setR, xE_setW, xsz_setW, xsl_setW, xtag_setW, xown_setW, xlen_setW, xi_setR, xi_setW, xr_setI, xr_setW, xww_setI, xww_setR, xi_setI, xr_setR, xww_setW, xE_new, xsz_new, xsl_new, hM.tx, hM.xp, hM.l3, xsub]; done) | (simp [-List.getD_eq_getElem?_getD, xE_setI, xsz_setI, xsl_setI, xtag_setI, xown_setI, xlen_setI, xE_setR, xsz_setR, xsl_setR, xtag_setR, xown_setR, xlen_setR, xE_setW, xsz_setW, xsl_setW, xtag_setW, xown_setW, xlen_setW, xi_setR, xi_setW, xr_setI, xr_setW, xww_setI, xww_setR, xi_setI, xr_setR, xww_setW, xE_new, xsz_new, xsl_new, hM.tx, hM.xp, hM.l3] <;> rfl)) (by simp [-List.getD_eq_getElem?_getD, xE_setI, xsz_setI, xsl_setI, xtag_setI, xown_setI, xlen_setI, xE_setR, xsz_setR, xsl_setR, xtag_setR, xown_setR, xlen_setR, xE_setW, xsz_setW, xsl_setW, xtag_setW, xown_setW, xlen_setW, xi_setR, xi_setW, xr_setI, xr_setW, xww_setI, xww_setR, xi_setI, xr_setR, xww_setW, xE_new, xsz_new, xsl_new, hM.tx, hM.xp, hM.l3]) ?_
  refine xw_iload_n (pc := 4) dX1_without_4 1 rfl ?_
  refine xw_callV (pc := 5) (xr_V (as := [_]) ok_X2_isRule rfl (by decide) q1688 q1343 q1344 (by rw [hM.P.tag]; rfl) (by rw [hM.P.tag]; rfl) dX1_without_5 rfl rfl (Nat.le_of_ble_eq_true rfl)) ((show XM M_X2_isRule (d + 76) [.ref p, .int (nI r)] g (xOne (some (.int (bI true))) g) from hvT ▸ SP_X2_isRule hM.P.pl)) ?_
  refine xw_callU (pc := 8) (xr_S (as := [_]) ok_X1_checkIndex rfl (by decide) q1252 q1066 dX1_without_8 rfl rfl (Nat.le_of_ble_eq_true rfl)) (SP_X1_checkIndex_T) ?_
  refine xw_aload_n (pc := 11) dX1_without_11 0 rfl ?_
  refine xw_aload_n (pc := 12) dX1_without_12 0 rfl ?_
  refine xw_iload_n (pc := 13) dX1_without_13 1 rfl ?_
  refine xw_lam75 (pc := 14) 13 (by decide) (List.mem_of_getElem? (i := 4) rfl) rfl dX1_without_14 (Nat.le_of_ble_eq_true rfl) ?_
  refine xw_callF (pc := 19) (xr_V (as := [_]) ok_X1_sum rfl (by decide) q1692 q1694 qs28 (by rw [hM1.tx]; rfl) (by rw [hM1.tx]; rfl) dX1_without_19 rfl rfl (Nat.le_of_ble_eq_true rfl)) (SP_X1_sum hM1 (xTold_75 hM1 k1 k2 k7 k3 k4)) ?_
  intro g19 hc19 hm19
  refine xw_iret (pc := 22) .int dX1_without_22 rfl ?_ 
  rw [show xi (xNew g (xLm 75 13 2 (fun _ => nI r) (fun _ => some x)) 2) (xsz g) 1 = nI r from (xi_newS rfl).trans rfl, sumF_B (wRt (S 1) (nI r) rr)]
  have e9 := cntB_not (wRt (S 1) (nI r) rr) ww
  rw [show ww - cntB (fun z => !wRt (S 1) (nI r) rr z) ww = cntB (wRt (S 1) (nI r) rr) ww from by omega]
  exact ⟨rfl, hc19.1, ((F1.sub (fun _ h => h.elim) (Nat.le_refl _)).tr hc19.2).sub (fun _ h => h) (by omega)⟩

theorem SP_X1_scopeOf4 {d : Nat} {g : xG} {x p lk fa ka la n rr ww : Nat} {Z : xAd} {S : xMS} (hM : xMn g x p lk fa ka la Z S n rr ww) {k : Nat} (hk : k < n) : XM M_X1_scopeOf (d + 80) [.ref x, .int (nI k), .int (nI 4)] g (xVal (.int (nI (cntB (inSc S k) rr))) (fun g' => xLb g' x lk fa ka la ∧ xFr (oEq 6) 4 g g')) := by
  have hlc := hM.P.lc
  have n10 := hM.P.wf.n10
  have F1 : xFr oNo (0 + 2) g (xNew g (xLm 72 13 1 (fun _ => nI k) (fun _ => none)) 1) := (xFr.rf (O := oNo) (n := 0)).nw
  have hP1 : xPol (xNew g (xLm 72 13 1 (fun _ => nI k) (fun _ => none)) 1) p Z (S 1) n rr ww := hM.P.fr F1 (fun o _ h => h) (by unfold oNo; exact id)
  have hM1 : xMn (xNew g (xLm 72 13 1 (fun _ => nI k) (fun _ => none)) 1) x p lk fa ka la Z S n rr ww := hM.fr F1 (by unfold oKeep oNo; simp) hP1
  have k1 : xtag (xNew g (xLm 72 13 1 (fun _ => nI k) (fun _ => none)) 1) (xsz g) = 72 := (xtag_newS rfl).trans rfl
  have k2 : xown (xNew g (xLm 72 13 1 (fun _ => nI k) (fun _ => none)) 1) (xsz g) ≠ 0 := by rw [xown_newS rfl]; show (13 : Nat) ≠ 0; decide
  have k3 : 1 ≤ xlen (xNew g (xLm 72 13 1 (fun _ => nI k) (fun _ => none)) 1) (xsz g) := by rw [xlen_newS rfl]; exact Nat.le_refl _
  have F2 : xFr oNo (0 + 2) (xNew g (xLm 72 13 1 (fun _ => nI k) (fun _ => none)) 1) (xNew (xNew g (xLm 72 13 1 (fun _ => nI k) (fun _ => none)) 1) (xLm 73 13 1 (fun _ => 0) (fun _ => some (xsz g))) 1) := (xFr.rf (O := oNo) (n := 0)).nw
  have hP2 : xPol (xNew (xNew g (xLm 72 13 1 (fun _ => nI k) (fun _ => none)) 1) (xLm 73 13 1 (fun _ => 0) (fun _ => some (xsz g))) 1) p Z (S 1) n rr ww := hP1.fr F2 (fun o _ h => h) (by unfold oNo; exact id)
  have hlz : xsz g < xsz (xNew g (xLm 72 13 1 (fun _ => nI k) (fun _ => none)) 1) := Nat.lt_succ_self _
  have a1 : xtag (xNew (xNew g (xLm 72 13 1 (fun _ => nI k) (fun _ => none)) 1) (xLm 73 13 1 (fun _ => 0) (fun _ => some (xsz g))) 1) (xsz g) = 72 := (F2.tag hlz).trans k1
  have a2 : xown (xNew (xNew g (xLm 72 13 1 (fun _ => nI k) (fun _ => none)) 1) (xLm 73 13 1 (fun _ => 0) (fun _ => some (xsz g))) 1) (xsz g) ≠ 0 := by rw [F2.own hlz]; exact k2
  have a3 : 1 ≤ xlen (xNew (xNew g (xLm 72 13 1 (fun _ => nI k) (fun _ => none)) 1) (xLm 73 13 1 (fun _ => 0) (fun _ => some (xsz g))) 1) (xsz g) := by rw [F2.len hlz]; exact k3
  have a4 : xi (xNew (xNew g (xLm 72 13 1 (fun _ => nI k) (fun _ => none)) 1) (xLm 73 13 1 (fun _ => 0) (fun _ => some (xsz g))) 1) (xsz g) 0 = nI k := (F2.i' hlz (by unfold oNo; exact id)).trans ((xi_newS rfl).trans rfl)
  have hA : xAsk (xNew (xNew g (xLm 72 13 1 (fun _ => nI k) (fun _ => none)) 1) (xLm 73 13 1 (fun _ => 0) (fun _ => some (xsz g))) 1) (d + 6 + 70) (xsz g) rr Z (inSc S k) := by
    have h9 := xAsk_72 (d := d + 70) (b := xsz g) hP2 a1 a2 a3
    rw [a4] at h9
    exact h9
  refine xm_of (by decide +kernel) (Nat.le_of_ble_eq_true rfl) ?_
  show XW _ _ 0 [(0, _), (1, _), (2, _)] [] _ _
  refine xw_aload_n (pc := 0) dX1_scopeOf_0 0 rfl ?_
  refine xw_getS (b := p) (pc := 1) fd_X1_10 dX1_scopeOf_1 (by first | assumption | (simp [-List.getD_eq_getElem?_getD, xE_setI, xsz_setI, xsl_setI, xtag_setI, xown_setI, xlen_setI, xE_setR, xsz_setR, xsl_setR, xtag_setR, xown_setR, xlen_setR, xE_setW, xsz_setW, xsl_setW, xtag_setW, xown_setW, xlen_setW, xi_setR, xi_setW, xr_setI, xr_setW, xww_setI, xww_setR, xi_setI, xr_setR, xww_setW, xE_new, xsz_new, xsl_new, hM.tx, hM.xp, hM.l3, xsub]; done) | (simp [-List.getD_eq_getElem?_getD, xE_setI, xsz_setI, xsl_setI, xtag_setI, xown_setI, xlen_setI, xE_setR, xsz_setR, xsl_setR, xtag_setR, xown_setR, xlen_setR, xE_setW, xsz_setW, xsl_setW, xtag_setW, xown_setW, xlen_setW, xi_setR, xi_setW, xr_setI, xr_setW, xww_setI, xww_setR, xi_setI, xr_setR, xww_setW, xE_new, xsz_new, xsl_new, hM.tx, hM.xp, hM.l3] <;> rfl)) (by simp [-List.getD_eq_getElem?_getD, xE_setI, xsz_setI, xsl_setI, xtag_setI, xown_setI, xlen_setI, xE_setR, xsz_setR, xsl_setR, xtag_setR, xown_setR, xlen_setR, xE_setW, xsz_setW, xsl_setW, xtag_setW, xown_setW, xlen_setW, xi_setR, xi_setW, xr_setI, xr_setW, xww_setI, xww_setR, xi_setI, xr_setR, xww_setW, xE_new, xsz_new, xsl_new, hM.tx, hM.xp, hM.l3]) ?_
  refine xw_iload_n (pc := 4) dX1_scopeOf_4 1 rfl ?_
  refine xw_callV (pc := 5) (xr_V (as := [_]) ok_X2_scope rfl (by decide) q1056 q1057 q1058 (by first | (rw [hM.P.tag]; rfl) | (rw [hP1.tag]; rfl)) (by first | (rw [hM.P.tag]; rfl) | (rw [hP1.tag]; rfl)) dX1_scopeOf_5 rfl rfl (Nat.le_of_ble_eq_true rfl)) (SP_X2_scope hM.P.pl k (by omega) (hM.P.so' hk)) ?_
  refine xw_astore_n (l' := [(3, _), (0, _), (1, _), (2, _)]) (pc := 8) dX1_scopeOf_8 rfl (by decide) rfl ?_
  refine xw_iload_n (pc := 9) dX1_scopeOf_9 3 rfl ?_
  refine xw_iconst (v := nI 0) (pc := 10) dX1_scopeOf_10 rfl ?_
  refine xw_iconst (v := nI 4) (pc := 11) dX1_scopeOf_11 rfl ?_
  refine xw_callV (pc := 12) (xr_S (as := [_, _, _]) ok_X1_isIn rfl (by decide) q1180 q784 dX1_scopeOf_12 rfl rfl (Nat.le_of_ble_eq_true rfl)) (SP_X1_isInT (by decide)) ?_
  refine xw_callU (pc := 15) (xr_S (as := [_]) ok_X1_check rfl (by decide) q1181 q1182 dX1_scopeOf_15 rfl rfl (Nat.le_of_ble_eq_true rfl)) (SP_X1_check_T) ?_
  refine xw_iload_n (pc := 18) dX1_scopeOf_18 3 rfl ?_
  refine xw_tableOut (pc := 19) 88 dX1_scopeOf_19 (by rw [nI_toInt (by omega)]; omega) rfl ?_
  refine xw_aload_n (pc := 88) dX1_scopeOf_88 1 rfl ?_
  refine xw_getS (b := p) (pc := 89) fd_X1_10 dX1_scopeOf_89 (by first | assumption | (simp [-List.getD_eq_getElem?_getD, xE_setI, xsz_setI, xsl_setI, xtag_setI, xown_setI, xlen_setI, xE_setR, xsz_setR, xsl_setR, xtag_setR, xown_setR, xlen_setR, xE_setW, xsz_setW, xsl_setW, xtag_setW, xown_setW, xlen_setW, xi_setR, xi_setW, xr_setI, xr_setW, xww_setI, xww_setR, xi_setI, xr_setR, xww_setW, xE_new, xsz_new, xsl_new, hM.tx, hM.xp, hM.l3, xsub]; done) | (simp [-List.getD_eq_getElem?_getD, xE_setI, xsz_setI, xsl_setI, xtag_setI, xown_setI, xlen_setI, xE_setR, xsz_setR, xsl_setR, xtag_setR, xown_setR, xlen_setR, xE_setW, xsz_setW, xsl_setW, xtag_setW, xown_setW, xlen_setW, xi_setR, xi_setW, xr_setI, xr_setW, xww_setI, xww_setR, xi_setI, xr_setR, xww_setW, xE_new, xsz_new, xsl_new, hM.tx, hM.xp, hM.l3] <;> rfl)) (by simp [-List.getD_eq_getElem?_getD, xE_setI, xsz_setI, xsl_setI, xtag_setI, xown_setI, xlen_setI, xE_setR, xsz_setR, xsl_setR, xtag_setR, xown_setR, xlen_setR, xE_setW, xsz_setW, xsl_setW, xtag_setW, xown_setW, xlen_setW, xi_setR, xi_setW, xr_setI, xr_setW, xww_setI, xww_setR, xi_setI, xr_setR, xww_setW, xE_new, xsz_new, xsl_new, hM.tx, hM.xp, hM.l3]) ?_
  refine xw_iload_n (pc := 92) dX1_scopeOf_92 2 rfl ?_
  refine xw_lam72 (pc := 93) 13 (by decide) (List.mem_of_getElem? (i := 1) rfl) rfl dX1_scopeOf_93 (Nat.le_of_ble_eq_true rfl) ?_
  
  refine xw_callV (pc := 98) (xr_V (as := [_]) ok_X2_count rfl (by decide) q1226 q1227 q1228 (by first | (rw [hM.P.tag]; rfl) | (rw [hP1.tag]; rfl)) (by first | (rw [hM.P.tag]; rfl) | (rw [hP1.tag]; rfl)) dX1_scopeOf_98 rfl rfl (Nat.le_of_ble_eq_true rfl)) (SP_X2_count (d := d + 70) hP1 hA) ?_
  refine xw_iret (pc := 101) .int dX1_scopeOf_101 rfl ?_ 
  exact ⟨rfl, (hM1.fr F2 (by unfold oKeep oNo; simp) hP2).B, ((F1.tr F2).sub (fun _ h => h.elim) (by omega))⟩

theorem SP_X1_ruleOf8 {d : Nat} {g : xG} {x p lk fa ka la n rr ww : Nat} {Z : xAd} {S : xMS} (hM : xMn g x p lk fa ka la Z S n rr ww) {k : Nat} (hk : k < rr) : XM M_X1_ruleOf (d + 80) [.ref x, .int (nI k), .int (nI 8)] g (xVal (.int (nI (cntB (isPar S k) rr))) (fun g' => xLb g' x lk fa ka la ∧ xFr (oEq 6) 4 g g')) := by
  have hlr := hM.P.lr
  have r16 := hM.P.wf.r16
  have F1 : xFr oNo (0 + 2) g (xNew g (xLm 74 13 1 (fun _ => nI k) (fun _ => none)) 1) := (xFr.rf (O := oNo) (n := 0)).nw
  have hP1 : xPol (xNew g (xLm 74 13 1 (fun _ => nI k) (fun _ => none)) 1) p Z (S 1) n rr ww := hM.P.fr F1 (fun o _ h => h) (by unfold oNo; exact id)
  have hM1 : xMn (xNew g (xLm 74 13 1 (fun _ => nI k) (fun _ => none)) 1) x p lk fa ka la Z S n rr ww := hM.fr F1 (by unfold oKeep oNo; simp) hP1
  have k1 : xtag (xNew g (xLm 74 13 1 (fun _ => nI k) (fun _ => none)) 1) (xsz g) = 74 := (xtag_newS rfl).trans rfl
  have k2 : xown (xNew g (xLm 74 13 1 (fun _ => nI k) (fun _ => none)) 1) (xsz g) ≠ 0 := by rw [xown_newS rfl]; show (13 : Nat) ≠ 0; decide
  have k3 : 1 ≤ xlen (xNew g (xLm 74 13 1 (fun _ => nI k) (fun _ => none)) 1) (xsz g) := by rw [xlen_newS rfl]; exact Nat.le_refl _
  have F2 : xFr oNo (0 + 2) (xNew g (xLm 74 13 1 (fun _ => nI k) (fun _ => none)) 1) (xNew (xNew g (xLm 74 13 1 (fun _ => nI k) (fun _ => none)) 1) (xLm 73 13 1 (fun _ => 0) (fun _ => some (xsz g))) 1) := (xFr.rf (O := oNo) (n := 0)).nw
  have hP2 : xPol (xNew (xNew g (xLm 74 13 1 (fun _ => nI k) (fun _ => none)) 1) (xLm 73 13 1 (fun _ => 0) (fun _ => some (xsz g))) 1) p Z (S 1) n rr ww := hP1.fr F2 (fun o _ h => h) (by unfold oNo; exact id)
  have hlz : xsz g < xsz (xNew g (xLm 74 13 1 (fun _ => nI k) (fun _ => none)) 1) := Nat.lt_succ_self _
  have a1 : xtag (xNew (xNew g (xLm 74 13 1 (fun _ => nI k) (fun _ => none)) 1) (xLm 73 13 1 (fun _ => 0) (fun _ => some (xsz g))) 1) (xsz g) = 74 := (F2.tag hlz).trans k1
  have a2 : xown (xNew (xNew g (xLm 74 13 1 (fun _ => nI k) (fun _ => none)) 1) (xLm 73 13 1 (fun _ => 0) (fun _ => some (xsz g))) 1) (xsz g) ≠ 0 := by rw [F2.own hlz]; exact k2
  have a3 : 1 ≤ xlen (xNew (xNew g (xLm 74 13 1 (fun _ => nI k) (fun _ => none)) 1) (xLm 73 13 1 (fun _ => 0) (fun _ => some (xsz g))) 1) (xsz g) := by rw [F2.len hlz]; exact k3
  have a4 : xi (xNew (xNew g (xLm 74 13 1 (fun _ => nI k) (fun _ => none)) 1) (xLm 73 13 1 (fun _ => 0) (fun _ => some (xsz g))) 1) (xsz g) 0 = nI k := (F2.i' hlz (by unfold oNo; exact id)).trans ((xi_newS rfl).trans rfl)
  have hA : xAsk (xNew (xNew g (xLm 74 13 1 (fun _ => nI k) (fun _ => none)) 1) (xLm 73 13 1 (fun _ => 0) (fun _ => some (xsz g))) 1) (d + 6 + 70) (xsz g) rr Z (isPar S k) := by
    have h9 := xAsk_74 (d := d + 70) (b := xsz g) hP2 a1 a2 a3
    rw [a4] at h9
    exact h9
  refine xm_of (by decide +kernel) (Nat.le_of_ble_eq_true rfl) ?_
  show XW _ _ 0 [(0, _), (1, _), (2, _)] [] _ _
  refine xw_aload_n (pc := 0) dX1_ruleOf_0 0 rfl ?_
  refine xw_getS (b := p) (pc := 1) fd_X1_10 dX1_ruleOf_1 (by first | assumption | (simp [-List.getD_eq_getElem?_getD, xE_setI, xsz_setI, xsl_setI, xtag_setI, xown_setI, xlen_setI, xE_setR, xsz_setR, xsl_setR, xtag_setR, xown_setR, xlen_setR, xE_setW, xsz_setW, xsl_setW, xtag_setW, xown_setW, xlen_setW, xi_setR, xi_setW, xr_setI, xr_setW, xww_setI, xww_setR, xi_setI, xr_setR, xww_setW, xE_new, xsz_new, xsl_new, hM.tx, hM.xp, hM.l3, xsub]; done) | (simp [-List.getD_eq_getElem?_getD, xE_setI, xsz_setI, xsl_setI, xtag_setI, xown_setI, xlen_setI, xE_setR, xsz_setR, xsl_setR, xtag_setR, xown_setR, xlen_setR, xE_setW, xsz_setW, xsl_setW, xtag_setW, xown_setW, xlen_setW, xi_setR, xi_setW, xr_setI, xr_setW, xww_setI, xww_setR, xi_setI, xr_setR, xww_setW, xE_new, xsz_new, xsl_new, hM.tx, hM.xp, hM.l3] <;> rfl)) (by simp [-List.getD_eq_getElem?_getD, xE_setI, xsz_setI, xsl_setI, xtag_setI, xown_setI, xlen_setI, xE_setR, xsz_setR, xsl_setR, xtag_setR, xown_setR, xlen_setR, xE_setW, xsz_setW, xsl_setW, xtag_setW, xown_setW, xlen_setW, xi_setR, xi_setW, xr_setI, xr_setW, xww_setI, xww_setR, xi_setI, xr_setR, xww_setW, xE_new, xsz_new, xsl_new, hM.tx, hM.xp, hM.l3]) ?_
  refine xw_iload_n (pc := 4) dX1_ruleOf_4 1 rfl ?_
  refine xw_callV (pc := 5) (xr_V (as := [_]) ok_X2_rule rfl (by decide) q1338 q1339 q1340 (by first | (rw [hM.P.tag]; rfl) | (rw [hP1.tag]; rfl)) (by first | (rw [hM.P.tag]; rfl) | (rw [hP1.tag]; rfl)) dX1_ruleOf_5 rfl rfl (Nat.le_of_ble_eq_true rfl)) (SP_X2_rule hM.P.pl k (by omega) (hM.P.ru hk).1) ?_
  refine xw_astore_n (l' := [(3, _), (0, _), (1, _), (2, _)]) (pc := 8) dX1_ruleOf_8 rfl (by decide) rfl ?_
  refine xw_iload_n (pc := 9) dX1_ruleOf_9 3 rfl ?_
  refine xw_iconst (v := nI 0) (pc := 10) dX1_ruleOf_10 rfl ?_
  refine xw_bipush (v := nI 9) (pc := 11) dX1_ruleOf_11 (by decide +kernel) ?_
  refine xw_callV (pc := 13) (xr_S (as := [_, _, _]) ok_X1_isIn rfl (by decide) q1180 q784 dX1_ruleOf_13 rfl rfl (Nat.le_of_ble_eq_true rfl)) (SP_X1_isInT (by decide)) ?_
  refine xw_callU (pc := 16) (xr_S (as := [_]) ok_X1_check rfl (by decide) q1181 q1182 dX1_ruleOf_16 rfl rfl (Nat.le_of_ble_eq_true rfl)) (SP_X1_check_T) ?_
  refine xw_iload_n (pc := 19) dX1_ruleOf_19 3 rfl ?_
  refine xw_tableIn (x := nI 8) (pc := 20) 118 dX1_ruleOf_20 (by decide) (by decide) rfl rfl ?_
  refine xw_aload_n (pc := 118) dX1_ruleOf_118 1 rfl ?_
  refine xw_getS (b := p) (pc := 119) fd_X1_10 dX1_ruleOf_119 (by first | assumption | (simp [-List.getD_eq_getElem?_getD, xE_setI, xsz_setI, xsl_setI, xtag_setI, xown_setI, xlen_setI, xE_setR, xsz_setR, xsl_setR, xtag_setR, xown_setR, xlen_setR, xE_setW, xsz_setW, xsl_setW, xtag_setW, xown_setW, xlen_setW, xi_setR, xi_setW, xr_setI, xr_setW, xww_setI, xww_setR, xi_setI, xr_setR, xww_setW, xE_new, xsz_new, xsl_new, hM.tx, hM.xp, hM.l3, xsub]; done) | (simp [-List.getD_eq_getElem?_getD, xE_setI, xsz_setI, xsl_setI, xtag_setI, xown_setI, xlen_setI, xE_setR, xsz_setR, xsl_setR, xtag_setR, xown_setR, xlen_setR, xE_setW, xsz_setW, xsl_setW, xtag_setW, xown_setW, xlen_setW, xi_setR, xi_setW, xr_setI, xr_setW, xww_setI, xww_setR, xi_setI, xr_setR, xww_setW, xE_new, xsz_new, xsl_new, hM.tx, hM.xp, hM.l3] <;> rfl)) (by simp [-List.getD_eq_getElem?_getD, xE_setI, xsz_setI, xsl_setI, xtag_setI, xown_setI, xlen_setI, xE_setR, xsz_setR, xsl_setR, xtag_setR, xown_setR, xlen_setR, xE_setW, xsz_setW, xsl_setW, xtag_setW, xown_setW, xlen_setW, xi_setR, xi_setW, xr_setI, xr_setW, xww_setI, xww_setR, xi_setI, xr_setR, xww_setW, xE_new, xsz_new, xsl_new, hM.tx, hM.xp, hM.l3]) ?_
  refine xw_iload_n (pc := 122) dX1_ruleOf_122 2 rfl ?_
  refine xw_lam74 (pc := 123) 13 (by decide) (List.mem_of_getElem? (i := 3) rfl) rfl dX1_ruleOf_123 (Nat.le_of_ble_eq_true rfl) ?_
  
  refine xw_callV (pc := 128) (xr_V (as := [_]) ok_X2_count rfl (by decide) q1226 q1227 q1228 (by first | (rw [hM.P.tag]; rfl) | (rw [hP1.tag]; rfl)) (by first | (rw [hM.P.tag]; rfl) | (rw [hP1.tag]; rfl)) dX1_ruleOf_128 rfl rfl (Nat.le_of_ble_eq_true rfl)) (SP_X2_count (d := d + 70) hP1 hA) ?_
  refine xw_iret (pc := 131) .int dX1_ruleOf_131 rfl ?_ 
  exact ⟨rfl, (hM1.fr F2 (by unfold oKeep oNo; simp) hP2).B, ((F1.tr F2).sub (fun _ h => h.elim) (by omega))⟩

