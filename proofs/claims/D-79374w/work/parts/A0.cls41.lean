/-! CLASS 41: scopes, rules, tests asked -/
set_option maxRecDepth 100000
theorem xw_tdigit {M : xM} {d pc : Nat} {l : List (Nat × Value)} {rest : List Value} {g : xG} {Q : Option Value ⊕ Nat → xG → Prop} {idx b : Nat} (hb : 10 ≤ xtag g b) (hb2 : xtag g b ≤ 13) (hd : decode M.2.1 pc = .ok (.invokevirtual idx, 3)) (hl : Cond.methodLink M.1.cls idx ⟨"PolicyNotation$Test", "digit", "()I"⟩ ∈ lw_all) (hr : (rest.map fun v => v.category).sum ≤ 8) (k : XW M (d + 1) (pc + 3) l (.int (xi g b 1) :: rest) g Q) : XW M (d + 1) pc l (.ref b :: rest) g Q := by
  have h : xtag g b = 10 ∨ xtag g b = 11 ∨ xtag g b = 12 ∨ xtag g b = 13 := by omega
  rcases h with h | h | h | h
  · exact xw_callV (xr_U (x := ⟨"PolicyNotation$Test", "digit", "()I"⟩) (as := []) ok_X12_digit rfl (by decide) hl q2774 (Or.inl q816) ⟨by decide, by decide, by decide +kernel⟩ q818 (by rw [h]; rfl) (by rw [h]; exact q2775) hd rfl rfl hr) (SP_X12_digit (by rw [h]; rfl)) k
  · exact xw_callV (xr_U (x := ⟨"PolicyNotation$Test", "digit", "()I"⟩) (as := []) ok_X12_digit rfl (by decide) hl q2774 (Or.inl q816) ⟨by decide, by decide, by decide +kernel⟩ q818 (by rw [h]; rfl) (by rw [h]; exact q2777) hd rfl rfl hr) (SP_X12_digit (by rw [h]; rfl)) k
  · exact xw_callV (xr_U (x := ⟨"PolicyNotation$Test", "digit", "()I"⟩) (as := []) ok_X12_digit rfl (by decide) hl q2774 (Or.inl q816) ⟨by decide, by decide, by decide +kernel⟩ q818 (by rw [h]; rfl) (by rw [h]; exact q2776) hd rfl rfl hr) (SP_X12_digit (by rw [h]; rfl)) k
  · exact xw_callV (xr_U (x := ⟨"PolicyNotation$Test", "digit", "()I"⟩) (as := []) ok_X12_digit rfl (by decide) hl q2774 (Or.inl q816) ⟨by decide, by decide, by decide +kernel⟩ q818 (by rw [h]; rfl) (by rw [h]; exact q2778) hd rfl rfl hr) (SP_X12_digit (by rw [h]; rfl)) k
theorem dfl_e {s : Nat → Int32} {n rr ww : Nat} (h : WFS s n rr ww) : ∀ {k : Nat}, k < n → ∃ e, e < 3 ∧ dfl s k = nI e := by
  intro k
  induction k using Nat.strongRecOn with
  | _ k ih =>
    intro hk
    rw [dfl]
    by_cases hc : s (4 + 2 * k) < 0 ∧ 0 < k ∧ ou s k < k
    · rw [dif_pos hc]
      exact ih _ hc.2.2 (by omega)
    · rw [dif_neg hc]
      rcases h.e.2 k hk with q | q
      · exfalso
        have h0 : s (4 + 2 * k) < 0 := by rw [q]; exact neg1lt
        by_cases z : k = 0
        · subst z
          exact h.e.1 h0
        · exact hc ⟨h0, by omega, (h.o.2 k (by omega) hk).2⟩
      · exact q
theorem SP_X1_isWithin_F {d : Nat} {g : xG} {x p lk fa ka la n rr ww : Nat} {Z : xAd} {S : xMS} (hM : xMn g x p lk fa ka la Z S n rr ww) {v e : Int32} (hv : ¬ inR v (nI 0) (nI n - nI 1) = true) : XM M_X1_isWithin (d + 80) [.ref x, .int v, .int e] g (xThr (xsz g) (xExc g 23)) := by
  have hlc := hM.P.lc
  have n10 := hM.P.wf.n10
  refine xm_of (by decide +kernel) (Nat.le_of_ble_eq_true rfl) ?_
  show XW _ _ 0 [(0, _), (1, _), (2, _)] [] _ _
  refine xw_aload_n (pc := 0) dX1_isWithin_0 0 rfl ?_
  refine xw_getS (b := p) (pc := 1) fd_X1_10 dX1_isWithin_1 (by first | assumption | (simp [-List.getD_eq_getElem?_getD, xE_setI, xsz_setI, xsl_setI, xtag_setI, xown_setI, xlen_setI, xE_setR, xsz_setR, xsl_setR, xtag_setR, xown_setR, xlen_setR, xE_setW, xsz_setW, xsl_setW, xtag_setW, xown_setW, xlen_setW, xi_setR, xi_setW, xr_setI, xr_setW, xww_setI, xww_setR, xi_setI, xr_setR, xww_setW, xE_new, xsz_new, xsl_new, hM.tx, hM.xp, hM.l3, xsub]; done) | (simp [-List.getD_eq_getElem?_getD, xE_setI, xsz_setI, xsl_setI, xtag_setI, xown_setI, xlen_setI, xE_setR, xsz_setR, xsl_setR, xtag_setR, xown_setR, xlen_setR, xE_setW, xsz_setW, xsl_setW, xtag_setW, xown_setW, xlen_setW, xi_setR, xi_setW, xr_setI, xr_setW, xww_setI, xww_setR, xi_setI, xr_setR, xww_setW, xE_new, xsz_new, xsl_new, hM.tx, hM.xp, hM.l3] <;> rfl)) (by simp [-List.getD_eq_getElem?_getD, xE_setI, xsz_setI, xsl_setI, xtag_setI, xown_setI, xlen_setI, xE_setR, xsz_setR, xsl_setR, xtag_setR, xown_setR, xlen_setR, xE_setW, xsz_setW, xsl_setW, xtag_setW, xown_setW, xlen_setW, xi_setR, xi_setW, xr_setI, xr_setW, xww_setI, xww_setR, xi_setI, xr_setR, xww_setW, xE_new, xsz_new, xsl_new, hM.tx, hM.xp, hM.l3]) ?_
  refine xw_iload_n (pc := 4) dX1_isWithin_4 1 rfl ?_
  refine xw_callX (pc := 5) (xr_V (as := [_]) ok_X2_scope rfl (by decide) q1056 q1057 q1058 (by rw [hM.P.tag]; rfl) (by rw [hM.P.tag]; rfl) dX1_isWithin_5 rfl rfl (Nat.le_of_ble_eq_true rfl)) (SP_X2_scope_F hM.P.pl v (by rw [hlc]; exact hv)) ?_
  exact xx_out0 rfl (by rw [xExc_tag]; decide) (by rw [xExc_tag]; decide) (by rw [xExc_own]; decide) ⟨rfl, rfl⟩

theorem SP_X1_isWithin_F2 {d : Nat} {g : xG} {x p lk fa ka la n rr ww : Nat} {Z : xAd} {S : xMS} (hM : xMn g x p lk fa ka la Z S n rr ww) {k : Nat} {v : Int32} (hk : k < n) (hv : ¬ inR v (nI 0) (nI n - nI 1) = true) : XM M_X1_isWithin (d + 80) [.ref x, .int (nI k), .int v] g (xThr (xsz g) (xExc g 23)) := by
  have hlc := hM.P.lc
  have n10 := hM.P.wf.n10
  have hsF : inR v (nI 0) (nI (aC Z).length - nI 1) = false := by rw [hlc]; exact Bool.eq_false_iff.mpr hv
  refine xm_of (by decide +kernel) (Nat.le_of_ble_eq_true rfl) ?_
  show XW _ _ 0 [(0, _), (1, _), (2, _)] [] _ _
  refine xw_aload_n (pc := 0) dX1_isWithin_0 0 rfl ?_
  refine xw_getS (b := p) (pc := 1) fd_X1_10 dX1_isWithin_1 (by first | assumption | (simp [-List.getD_eq_getElem?_getD, xE_setI, xsz_setI, xsl_setI, xtag_setI, xown_setI, xlen_setI, xE_setR, xsz_setR, xsl_setR, xtag_setR, xown_setR, xlen_setR, xE_setW, xsz_setW, xsl_setW, xtag_setW, xown_setW, xlen_setW, xi_setR, xi_setW, xr_setI, xr_setW, xww_setI, xww_setR, xi_setI, xr_setR, xww_setW, xE_new, xsz_new, xsl_new, hM.tx, hM.xp, hM.l3, xsub]; done) | (simp [-List.getD_eq_getElem?_getD, xE_setI, xsz_setI, xsl_setI, xtag_setI, xown_setI, xlen_setI, xE_setR, xsz_setR, xsl_setR, xtag_setR, xown_setR, xlen_setR, xE_setW, xsz_setW, xsl_setW, xtag_setW, xown_setW, xlen_setW, xi_setR, xi_setW, xr_setI, xr_setW, xww_setI, xww_setR, xi_setI, xr_setR, xww_setW, xE_new, xsz_new, xsl_new, hM.tx, hM.xp, hM.l3] <;> rfl)) (by simp [-List.getD_eq_getElem?_getD, xE_setI, xsz_setI, xsl_setI, xtag_setI, xown_setI, xlen_setI, xE_setR, xsz_setR, xsl_setR, xtag_setR, xown_setR, xlen_setR, xE_setW, xsz_setW, xsl_setW, xtag_setW, xown_setW, xlen_setW, xi_setR, xi_setW, xr_setI, xr_setW, xww_setI, xww_setR, xi_setI, xr_setR, xww_setW, xE_new, xsz_new, xsl_new, hM.tx, hM.xp, hM.l3]) ?_
  refine xw_iload_n (pc := 4) dX1_isWithin_4 1 rfl ?_
  refine xw_callV (pc := 5) (xr_V (as := [_]) ok_X2_scope rfl (by decide) q1056 q1057 q1058 (by rw [hM.P.tag]; rfl) (by rw [hM.P.tag]; rfl) dX1_isWithin_5 rfl rfl (Nat.le_of_ble_eq_true rfl)) (SP_X2_scope hM.P.pl k (by omega) (hM.P.so' hk)) ?_
  refine xw_astore_n (l' := [(3, _), (0, _), (1, _), (2, _)]) (pc := 8) dX1_isWithin_8 rfl (by decide) rfl ?_
  refine xw_aload_n (pc := 9) dX1_isWithin_9 1 rfl ?_
  refine xw_getS (b := p) (pc := 10) fd_X1_10 dX1_isWithin_10 (by first | assumption | (simp [-List.getD_eq_getElem?_getD, xE_setI, xsz_setI, xsl_setI, xtag_setI, xown_setI, xlen_setI, xE_setR, xsz_setR, xsl_setR, xtag_setR, xown_setR, xlen_setR, xE_setW, xsz_setW, xsl_setW, xtag_setW, xown_setW, xlen_setW, xi_setR, xi_setW, xr_setI, xr_setW, xww_setI, xww_setR, xi_setI, xr_setR, xww_setW, xE_new, xsz_new, xsl_new, hM.tx, hM.xp, hM.l3, xsub]; done) | (simp [-List.getD_eq_getElem?_getD, xE_setI, xsz_setI, xsl_setI, xtag_setI, xown_setI, xlen_setI, xE_setR, xsz_setR, xsl_setR, xtag_setR, xown_setR, xlen_setR, xE_setW, xsz_setW, xsl_setW, xtag_setW, xown_setW, xlen_setW, xi_setR, xi_setW, xr_setI, xr_setW, xww_setI, xww_setR, xi_setI, xr_setR, xww_setW, xE_new, xsz_new, xsl_new, hM.tx, hM.xp, hM.l3] <;> rfl)) (by simp [-List.getD_eq_getElem?_getD, xE_setI, xsz_setI, xsl_setI, xtag_setI, xown_setI, xlen_setI, xE_setR, xsz_setR, xsl_setR, xtag_setR, xown_setR, xlen_setR, xE_setW, xsz_setW, xsl_setW, xtag_setW, xown_setW, xlen_setW, xi_setR, xi_setW, xr_setI, xr_setW, xww_setI, xww_setR, xi_setI, xr_setR, xww_setW, xE_new, xsz_new, xsl_new, hM.tx, hM.xp, hM.l3]) ?_
  refine xw_iload_n (pc := 13) dX1_isWithin_13 3 rfl ?_
  refine xw_callV (pc := 14) (xr_V (as := [_]) ok_X2_isScope rfl (by decide) q1251 q1061 q1062 (by rw [hM.P.tag]; rfl) (by rw [hM.P.tag]; rfl) dX1_isWithin_14 rfl rfl (Nat.le_of_ble_eq_true rfl)) ((show XM M_X2_isScope (d + 79) [.ref p, .int v] g (xOne (some (.int (bI false))) g) from hsF ▸ SP_X2_isScope hM.P.pl)) ?_
  refine xw_callX (pc := 17) (xr_S (as := [_]) ok_X1_checkIndex rfl (by decide) q1252 q1066 dX1_isWithin_17 rfl rfl (Nat.le_of_ble_eq_true rfl)) (SP_X1_checkIndex_F) ?_
  exact xx_out0 rfl (by rw [xExc_tag]; decide) (by rw [xExc_tag]; decide) (by rw [xExc_own]; decide) ⟨rfl, rfl⟩

theorem SP_X1_isWithin {d : Nat} {g : xG} {x p lk fa ka la n rr ww : Nat} {Z : xAd} {S : xMS} (hM : xMn g x p lk fa ka la Z S n rr ww) {k q : Nat} (hk : k < n) (hq : q < n) : XM M_X1_isWithin (d + 80) [.ref x, .int (nI k), .int (nI q)] g (xOne (some (.int (bI (wit (S 1) k q)))) g) := by
  have hlc := hM.P.lc
  have n10 := hM.P.wf.n10
  have hsT : inR (nI q) (nI 0) (nI (aC Z).length - nI 1) = true := inR_k (by omega) (by omega)
  refine xm_of (by decide +kernel) (Nat.le_of_ble_eq_true rfl) ?_
  show XW _ _ 0 [(0, _), (1, _), (2, _)] [] _ _
  refine xw_aload_n (pc := 0) dX1_isWithin_0 0 rfl ?_
  refine xw_getS (b := p) (pc := 1) fd_X1_10 dX1_isWithin_1 (by first | assumption | (simp [-List.getD_eq_getElem?_getD, xE_setI, xsz_setI, xsl_setI, xtag_setI, xown_setI, xlen_setI, xE_setR, xsz_setR, xsl_setR, xtag_setR, xown_setR, xlen_setR, xE_setW, xsz_setW, xsl_setW, xtag_setW, xown_setW, xlen_setW, xi_setR, xi_setW, xr_setI, xr_setW, xww_setI, xww_setR, xi_setI, xr_setR, xww_setW, xE_new, xsz_new, xsl_new, hM.tx, hM.xp, hM.l3, xsub]; done) | (simp [-List.getD_eq_getElem?_getD, xE_setI, xsz_setI, xsl_setI, xtag_setI, xown_setI, xlen_setI, xE_setR, xsz_setR, xsl_setR, xtag_setR, xown_setR, xlen_setR, xE_setW, xsz_setW, xsl_setW, xtag_setW, xown_setW, xlen_setW, xi_setR, xi_setW, xr_setI, xr_setW, xww_setI, xww_setR, xi_setI, xr_setR, xww_setW, xE_new, xsz_new, xsl_new, hM.tx, hM.xp, hM.l3] <;> rfl)) (by simp [-List.getD_eq_getElem?_getD, xE_setI, xsz_setI, xsl_setI, xtag_setI, xown_setI, xlen_setI, xE_setR, xsz_setR, xsl_setR, xtag_setR, xown_setR, xlen_setR, xE_setW, xsz_setW, xsl_setW, xtag_setW, xown_setW, xlen_setW, xi_setR, xi_setW, xr_setI, xr_setW, xww_setI, xww_setR, xi_setI, xr_setR, xww_setW, xE_new, xsz_new, xsl_new, hM.tx, hM.xp, hM.l3]) ?_
  refine xw_iload_n (pc := 4) dX1_isWithin_4 1 rfl ?_
  refine xw_callV (pc := 5) (xr_V (as := [_]) ok_X2_scope rfl (by decide) q1056 q1057 q1058 (by rw [hM.P.tag]; rfl) (by rw [hM.P.tag]; rfl) dX1_isWithin_5 rfl rfl (Nat.le_of_ble_eq_true rfl)) (SP_X2_scope hM.P.pl k (by omega) (hM.P.so' hk)) ?_
  refine xw_astore_n (l' := [(3, _), (0, _), (1, _), (2, _)]) (pc := 8) dX1_isWithin_8 rfl (by decide) rfl ?_
  refine xw_aload_n (pc := 9) dX1_isWithin_9 1 rfl ?_
  refine xw_getS (b := p) (pc := 10) fd_X1_10 dX1_isWithin_10 (by first | assumption | (simp [-List.getD_eq_getElem?_getD, xE_setI, xsz_setI, xsl_setI, xtag_setI, xown_setI, xlen_setI, xE_setR, xsz_setR, xsl_setR, xtag_setR, xown_setR, xlen_setR, xE_setW, xsz_setW, xsl_setW, xtag_setW, xown_setW, xlen_setW, xi_setR, xi_setW, xr_setI, xr_setW, xww_setI, xww_setR, xi_setI, xr_setR, xww_setW, xE_new, xsz_new, xsl_new, hM.tx, hM.xp, hM.l3, xsub]; done) | (simp [-List.getD_eq_getElem?_getD, xE_setI, xsz_setI, xsl_setI, xtag_setI, xown_setI, xlen_setI, xE_setR, xsz_setR, xsl_setR, xtag_setR, xown_setR, xlen_setR, xE_setW, xsz_setW, xsl_setW, xtag_setW, xown_setW, xlen_setW, xi_setR, xi_setW, xr_setI, xr_setW, xww_setI, xww_setR, xi_setI, xr_setR, xww_setW, xE_new, xsz_new, xsl_new, hM.tx, hM.xp, hM.l3] <;> rfl)) (by simp [-List.getD_eq_getElem?_getD, xE_setI, xsz_setI, xsl_setI, xtag_setI, xown_setI, xlen_setI, xE_setR, xsz_setR, xsl_setR, xtag_setR, xown_setR, xlen_setR, xE_setW, xsz_setW, xsl_setW, xtag_setW, xown_setW, xlen_setW, xi_setR, xi_setW, xr_setI, xr_setW, xww_setI, xww_setR, xi_setI, xr_setR, xww_setW, xE_new, xsz_new, xsl_new, hM.tx, hM.xp, hM.l3]) ?_
  refine xw_iload_n (pc := 13) dX1_isWithin_13 3 rfl ?_
  refine xw_callV (pc := 14) (xr_V (as := [_]) ok_X2_isScope rfl (by decide) q1251 q1061 q1062 (by rw [hM.P.tag]; rfl) (by rw [hM.P.tag]; rfl) dX1_isWithin_14 rfl rfl (Nat.le_of_ble_eq_true rfl)) ((show XM M_X2_isScope (d + 79) [.ref p, .int (nI q)] g (xOne (some (.int (bI true))) g) from hsT ▸ SP_X2_isScope hM.P.pl)) ?_
  refine xw_callU (pc := 17) (xr_S (as := [_]) ok_X1_checkIndex rfl (by decide) q1252 q1066 dX1_isWithin_17 rfl rfl (Nat.le_of_ble_eq_true rfl)) (SP_X1_checkIndex_T) ?_
  refine xw_aload_n (pc := 20) dX1_isWithin_20 0 rfl ?_
  refine xw_iload_n (pc := 21) dX1_isWithin_21 3 rfl ?_
  refine xw_callV (pc := 22) (xr_V (as := [_]) ok_X3_isWithin rfl (by decide) q1253 q787 q788 (by rw [hM.P.so' hk]; rfl) (by rw [hM.P.so' hk]; rfl) dX1_isWithin_22 rfl rfl (Nat.le_of_ble_eq_true rfl)) (SP_X3_isWithin hM.P.sc hM.P.wf.o n10 q (by omega) k hk (d + 79) (by omega)) ?_
  refine xw_iret (pc := 25) .boolean dX1_isWithin_25 rfl ?_ (by first | rfl | (cases ‹Bool› <;> rfl) | exact xnB _)
  exact ⟨rfl, rfl⟩

theorem SP_X1_testAt_F {d : Nat} {g : xG} {x p n rr ww r : Nat} {Z : xAd} {s : Nat → Int32} (hP : xPol g p Z s n rr ww) (hr : r < rr) {v : Int32} (hv : ¬ inR v (nI 0) (nI (aT Z r).length - nI 1) = true) : XM M_X1_testAt (d + 20) [.ref x, .ref ((aR Z).getD r 0), .int v] g (xThr (xsz g) (xExc g 25)) := by
  have ru := hP.ru hr
  have tb : xtag g ((aR Z).getD r 0) = 6 ∨ xtag g ((aR Z).getD r 0) = 7 := ru.1
  have sb : xsub 90 (xtag g ((aR Z).getD r 0)) = true := xRu_x ru
  have fb : xr g ((aR Z).getD r 0) 6 = some (aTl Z r) := ru.2.2.2.2.2.2.2.1
  have al := ru.2.2.2.2.2.2.2.2.1
  have h75 := (hP.wf.ru hr).2.2.2.2.2.1
  have t5 : (aT Z r).length < 5 := by have e1 := ru.2.2.2.2.2.2.2.2.2.1.1; have e2 := h75.2; omega
  refine xm_of (by decide +kernel) (Nat.le_of_ble_eq_true rfl) ?_
  show XW _ _ 0 [(0, _), (1, _), (2, _)] [] _ _
  refine xw_iload_n (pc := 0) dX1_testAt_0 2 rfl ?_
  refine xw_iconst (v := nI 0) (pc := 1) dX1_testAt_1 rfl ?_
  refine xw_aload_n (pc := 2) dX1_testAt_2 1 rfl ?_
  refine xw_getS (b := (aTl Z r)) (pc := 3) fd_X1_262 dX1_testAt_3 (by first | assumption | (simp [-List.getD_eq_getElem?_getD, xE_setI, xsz_setI, xsl_setI, xtag_setI, xown_setI, xlen_setI, xE_setR, xsz_setR, xsl_setR, xtag_setR, xown_setR, xlen_setR, xE_setW, xsz_setW, xsl_setW, xtag_setW, xown_setW, xlen_setW, xi_setR, xi_setW, xr_setI, xr_setW, xww_setI, xww_setR, xi_setI, xr_setR, xww_setW, xE_new, xsz_new, xsl_new, sb, fb, xsub]; done) | (simp [-List.getD_eq_getElem?_getD, xE_setI, xsz_setI, xsl_setI, xtag_setI, xown_setI, xlen_setI, xE_setR, xsz_setR, xsl_setR, xtag_setR, xown_setR, xlen_setR, xE_setW, xsz_setW, xsl_setW, xtag_setW, xown_setW, xlen_setW, xi_setR, xi_setW, xr_setI, xr_setW, xww_setI, xww_setR, xi_setI, xr_setR, xww_setW, xE_new, xsz_new, xsl_new, sb, fb] <;> rfl)) (by simp [-List.getD_eq_getElem?_getD, xE_setI, xsz_setI, xsl_setI, xtag_setI, xown_setI, xlen_setI, xE_setR, xsz_setR, xsl_setR, xtag_setR, xown_setR, xlen_setR, xE_setW, xsz_setW, xsl_setW, xtag_setW, xown_setW, xlen_setW, xi_setR, xi_setW, xr_setI, xr_setW, xww_setI, xww_setR, xi_setI, xr_setR, xww_setW, xE_new, xsz_new, xsl_new, sb, fb]) ?_
  refine xw_callV (pc := 6) (xr_V (as := []) ok_J2_size rfl (by decide) q701 q702 q703 (by rw [al.1]; rfl) (by rw [al.1]; rfl) dX1_testAt_6 rfl rfl (Nat.le_of_ble_eq_true rfl)) (SP_J2_size al) ?_
  refine xw_iconst (v := nI 1) (pc := 9) dX1_testAt_9 rfl ?_
  refine xw_isub (pc := 10) dX1_testAt_10 ?_
  refine xw_callV (pc := 11) (xr_S (as := [_, _, _]) ok_X1_isIn rfl (by decide) q1180 q784 dX1_testAt_11 rfl rfl (Nat.le_of_ble_eq_true rfl)) (SP_X1_isInF hv) ?_
  refine xw_callX (pc := 14) (xr_S (as := [_]) ok_X1_checkElement rfl (by decide) q1495 q1496 dX1_testAt_14 rfl rfl (Nat.le_of_ble_eq_true rfl)) (SP_X1_checkElement_F) ?_
  exact xx_out0 rfl (by rw [xExc_tag]; decide) (by rw [xExc_tag]; decide) (by rw [xExc_own]; decide) ⟨rfl, rfl⟩

theorem SP_X1_testAt {d : Nat} {g : xG} {x p n rr ww r : Nat} {Z : xAd} {s : Nat → Int32} (hP : xPol g p Z s n rr ww) (hr : r < rr) {j : Nat} (hj : j < (aT Z r).length) : XM M_X1_testAt (d + 20) [.ref x, .ref ((aR Z).getD r 0), .int (nI j)] g (xOne (some (.ref ((aT Z r).getD j 0))) g) := by
  have ru := hP.ru hr
  have tb : xtag g ((aR Z).getD r 0) = 6 ∨ xtag g ((aR Z).getD r 0) = 7 := ru.1
  have sb : xsub 90 (xtag g ((aR Z).getD r 0)) = true := xRu_x ru
  have fb : xr g ((aR Z).getD r 0) 6 = some (aTl Z r) := ru.2.2.2.2.2.2.2.1
  have al := ru.2.2.2.2.2.2.2.2.1
  have h75 := (hP.wf.ru hr).2.2.2.2.2.1
  have t5 : (aT Z r).length < 5 := by have e1 := ru.2.2.2.2.2.2.2.2.2.1.1; have e2 := h75.2; omega
  have hq := ru.2.2.2.2.2.2.2.2.2.1.2 j hj
  refine xm_of (by decide +kernel) (Nat.le_of_ble_eq_true rfl) ?_
  show XW _ _ 0 [(0, _), (1, _), (2, _)] [] _ _
  refine xw_iload_n (pc := 0) dX1_testAt_0 2 rfl ?_
  refine xw_iconst (v := nI 0) (pc := 1) dX1_testAt_1 rfl ?_
  refine xw_aload_n (pc := 2) dX1_testAt_2 1 rfl ?_
  refine xw_getS (b := (aTl Z r)) (pc := 3) fd_X1_262 dX1_testAt_3 (by first | assumption | (simp [-List.getD_eq_getElem?_getD, xE_setI, xsz_setI, xsl_setI, xtag_setI, xown_setI, xlen_setI, xE_setR, xsz_setR, xsl_setR, xtag_setR, xown_setR, xlen_setR, xE_setW, xsz_setW, xsl_setW, xtag_setW, xown_setW, xlen_setW, xi_setR, xi_setW, xr_setI, xr_setW, xww_setI, xww_setR, xi_setI, xr_setR, xww_setW, xE_new, xsz_new, xsl_new, sb, fb, xsub]; done) | (simp [-List.getD_eq_getElem?_getD, xE_setI, xsz_setI, xsl_setI, xtag_setI, xown_setI, xlen_setI, xE_setR, xsz_setR, xsl_setR, xtag_setR, xown_setR, xlen_setR, xE_setW, xsz_setW, xsl_setW, xtag_setW, xown_setW, xlen_setW, xi_setR, xi_setW, xr_setI, xr_setW, xww_setI, xww_setR, xi_setI, xr_setR, xww_setW, xE_new, xsz_new, xsl_new, sb, fb] <;> rfl)) (by simp [-List.getD_eq_getElem?_getD, xE_setI, xsz_setI, xsl_setI, xtag_setI, xown_setI, xlen_setI, xE_setR, xsz_setR, xsl_setR, xtag_setR, xown_setR, xlen_setR, xE_setW, xsz_setW, xsl_setW, xtag_setW, xown_setW, xlen_setW, xi_setR, xi_setW, xr_setI, xr_setW, xww_setI, xww_setR, xi_setI, xr_setR, xww_setW, xE_new, xsz_new, xsl_new, sb, fb]) ?_
  refine xw_callV (pc := 6) (xr_V (as := []) ok_J2_size rfl (by decide) q701 q702 q703 (by rw [al.1]; rfl) (by rw [al.1]; rfl) dX1_testAt_6 rfl rfl (Nat.le_of_ble_eq_true rfl)) (SP_J2_size al) ?_
  refine xw_iconst (v := nI 1) (pc := 9) dX1_testAt_9 rfl ?_
  refine xw_isub (pc := 10) dX1_testAt_10 ?_
  refine xw_callV (pc := 11) (xr_S (as := [_, _, _]) ok_X1_isIn rfl (by decide) q1180 q784 dX1_testAt_11 rfl rfl (Nat.le_of_ble_eq_true rfl)) (SP_X1_isInT (inR_k (by omega) hj)) ?_
  refine xw_callU (pc := 14) (xr_S (as := [_]) ok_X1_checkElement rfl (by decide) q1495 q1496 dX1_testAt_14 rfl rfl (Nat.le_of_ble_eq_true rfl)) (SP_X1_checkElement_T) ?_
  refine xw_aload_n (pc := 17) dX1_testAt_17 1 rfl ?_
  refine xw_getS (b := (aTl Z r)) (pc := 18) fd_X1_262 dX1_testAt_18 (by first | assumption | (simp [-List.getD_eq_getElem?_getD, xE_setI, xsz_setI, xsl_setI, xtag_setI, xown_setI, xlen_setI, xE_setR, xsz_setR, xsl_setR, xtag_setR, xown_setR, xlen_setR, xE_setW, xsz_setW, xsl_setW, xtag_setW, xown_setW, xlen_setW, xi_setR, xi_setW, xr_setI, xr_setW, xww_setI, xww_setR, xi_setI, xr_setR, xww_setW, xE_new, xsz_new, xsl_new, sb, fb, xsub]; done) | (simp [-List.getD_eq_getElem?_getD, xE_setI, xsz_setI, xsl_setI, xtag_setI, xown_setI, xlen_setI, xE_setR, xsz_setR, xsl_setR, xtag_setR, xown_setR, xlen_setR, xE_setW, xsz_setW, xsl_setW, xtag_setW, xown_setW, xlen_setW, xi_setR, xi_setW, xr_setI, xr_setW, xww_setI, xww_setR, xi_setI, xr_setR, xww_setW, xE_new, xsz_new, xsl_new, sb, fb] <;> rfl)) (by simp [-List.getD_eq_getElem?_getD, xE_setI, xsz_setI, xsl_setI, xtag_setI, xown_setI, xlen_setI, xE_setR, xsz_setR, xsl_setR, xtag_setR, xown_setR, xlen_setR, xE_setW, xsz_setW, xsl_setW, xtag_setW, xown_setW, xlen_setW, xi_setR, xi_setW, xr_setI, xr_setW, xww_setI, xww_setR, xi_setI, xr_setR, xww_setW, xE_new, xsz_new, xsl_new, sb, fb]) ?_
  refine xw_iload_n (pc := 21) dX1_testAt_21 2 rfl ?_
  refine xw_callV (pc := 22) (xr_V (as := [_]) ok_J2_get rfl (by decide) q705 q706 q707 (by rw [al.1]; rfl) (by rw [al.1]; rfl) dX1_testAt_22 rfl rfl (Nat.le_of_ble_eq_true rfl)) (SP_J2_get al j hj) ?_
  refine xw_chkT (pc := 25) dX1_testAt_25 q656 (by exact hq.1) (by exact hq.2.1) ?_
  refine xw_aret (pc := 28) (.object "PolicyNotation$Test") dX1_testAt_28 rfl ?_
  exact ⟨rfl, rfl⟩

theorem SP_X1_testOf_F {d : Nat} {g : xG} {x p lk fa ka la n rr ww : Nat} {Z : xAd} {S : xMS} (hM : xMn g x p lk fa ka la Z S n rr ww) {v a b : Int32} (hv : ¬ inR v (nI 0) (nI rr - nI 1) = true) : XM M_X1_testOf (d + 80) [.ref x, .int v, .int a, .int b] g (xThr (xsz g) (xExc g 23)) := by
  have hlr := hM.P.lr
  have r16 := hM.P.wf.r16
  refine xm_of (by decide +kernel) (Nat.le_of_ble_eq_true rfl) ?_
  show XW _ _ 0 [(0, _), (1, _), (2, _), (3, _)] [] _ _
  refine xw_aload_n (pc := 0) dX1_testOf_0 0 rfl ?_
  refine xw_aload_n (pc := 1) dX1_testOf_1 0 rfl ?_
  refine xw_getS (b := p) (pc := 2) fd_X1_10 dX1_testOf_2 (by first | assumption | (simp [-List.getD_eq_getElem?_getD, xE_setI, xsz_setI, xsl_setI, xtag_setI, xown_setI, xlen_setI, xE_setR, xsz_setR, xsl_setR, xtag_setR, xown_setR, xlen_setR, xE_setW, xsz_setW, xsl_setW, xtag_setW, xown_setW, xlen_setW, xi_setR, xi_setW, xr_setI, xr_setW, xww_setI, xww_setR, xi_setI, xr_setR, xww_setW, xE_new, xsz_new, xsl_new, hM.tx, hM.xp, hM.l3, xsub]; done) | (simp [-List.getD_eq_getElem?_getD, xE_setI, xsz_setI, xsl_setI, xtag_setI, xown_setI, xlen_setI, xE_setR, xsz_setR, xsl_setR, xtag_setR, xown_setR, xlen_setR, xE_setW, xsz_setW, xsl_setW, xtag_setW, xown_setW, xlen_setW, xi_setR, xi_setW, xr_setI, xr_setW, xww_setI, xww_setR, xi_setI, xr_setR, xww_setW, xE_new, xsz_new, xsl_new, hM.tx, hM.xp, hM.l3] <;> rfl)) (by simp [-List.getD_eq_getElem?_getD, xE_setI, xsz_setI, xsl_setI, xtag_setI, xown_setI, xlen_setI, xE_setR, xsz_setR, xsl_setR, xtag_setR, xown_setR, xlen_setR, xE_setW, xsz_setW, xsl_setW, xtag_setW, xown_setW, xlen_setW, xi_setR, xi_setW, xr_setI, xr_setW, xww_setI, xww_setR, xi_setI, xr_setR, xww_setW, xE_new, xsz_new, xsl_new, hM.tx, hM.xp, hM.l3]) ?_
  refine xw_iload_n (pc := 5) dX1_testOf_5 1 rfl ?_
  refine xw_callX (pc := 6) (xr_V (as := [_]) ok_X2_rule rfl (by decide) q1338 q1339 q1340 (by rw [hM.P.tag]; rfl) (by rw [hM.P.tag]; rfl) dX1_testOf_6 rfl rfl (Nat.le_of_ble_eq_true rfl)) (SP_X2_rule_F hM.P.pl v (by rw [hlr]; exact hv)) ?_
  exact xx_out0 rfl (by rw [xExc_tag]; decide) (by rw [xExc_tag]; decide) (by rw [xExc_own]; decide) ⟨rfl, rfl⟩

theorem SP_X1_testOf_F2 {d : Nat} {g : xG} {x p lk fa ka la n rr ww : Nat} {Z : xAd} {S : xMS} (hM : xMn g x p lk fa ka la Z S n rr ww) {r : Nat} {v b : Int32} (hr : r < rr) (hv : ¬ inR v (nI 0) (nI (aT Z r).length - nI 1) = true) : XM M_X1_testOf (d + 80) [.ref x, .int (nI r), .int v, .int b] g (xThr (xsz g) (xExc g 25)) := by
  have hlr := hM.P.lr
  have r16 := hM.P.wf.r16
  refine xm_of (by decide +kernel) (Nat.le_of_ble_eq_true rfl) ?_
  show XW _ _ 0 [(0, _), (1, _), (2, _), (3, _)] [] _ _
  refine xw_aload_n (pc := 0) dX1_testOf_0 0 rfl ?_
  refine xw_aload_n (pc := 1) dX1_testOf_1 0 rfl ?_
  refine xw_getS (b := p) (pc := 2) fd_X1_10 dX1_testOf_2 (by first | assumption | (simp [-List.getD_eq_getElem?_getD, xE_setI, xsz_setI, xsl_setI, xtag_setI, xown_setI, xlen_setI, xE_setR, xsz_setR, xsl_setR, xtag_setR, xown_setR, xlen_setR, xE_setW, xsz_setW, xsl_setW, xtag_setW, xown_setW, xlen_setW, xi_setR, xi_setW, xr_setI, xr_setW, xww_setI, xww_setR, xi_setI, xr_setR, xww_setW, xE_new, xsz_new, xsl_new, hM.tx, hM.xp, hM.l3, xsub]; done) | (simp [-List.getD_eq_getElem?_getD, xE_setI, xsz_setI, xsl_setI, xtag_setI, xown_setI, xlen_setI, xE_setR, xsz_setR, xsl_setR, xtag_setR, xown_setR, xlen_setR, xE_setW, xsz_setW, xsl_setW, xtag_setW, xown_setW, xlen_setW, xi_setR, xi_setW, xr_setI, xr_setW, xww_setI, xww_setR, xi_setI, xr_setR, xww_setW, xE_new, xsz_new, xsl_new, hM.tx, hM.xp, hM.l3] <;> rfl)) (by simp [-List.getD_eq_getElem?_getD, xE_setI, xsz_setI, xsl_setI, xtag_setI, xown_setI, xlen_setI, xE_setR, xsz_setR, xsl_setR, xtag_setR, xown_setR, xlen_setR, xE_setW, xsz_setW, xsl_setW, xtag_setW, xown_setW, xlen_setW, xi_setR, xi_setW, xr_setI, xr_setW, xww_setI, xww_setR, xi_setI, xr_setR, xww_setW, xE_new, xsz_new, xsl_new, hM.tx, hM.xp, hM.l3]) ?_
  refine xw_iload_n (pc := 5) dX1_testOf_5 1 rfl ?_
  refine xw_callV (pc := 6) (xr_V (as := [_]) ok_X2_rule rfl (by decide) q1338 q1339 q1340 (by rw [hM.P.tag]; rfl) (by rw [hM.P.tag]; rfl) dX1_testOf_6 rfl rfl (Nat.le_of_ble_eq_true rfl)) (SP_X2_rule hM.P.pl r (by omega) (hM.P.ru hr).1) ?_
  refine xw_iload_n (pc := 9) dX1_testOf_9 2 rfl ?_
  refine xw_callX (pc := 10) (xr_V (as := [_, _]) ok_X1_testAt rfl (by decide) q1491 q1493 qs25 (by rw [hM.tx]; rfl) (by rw [hM.tx]; rfl) dX1_testOf_10 rfl rfl (Nat.le_of_ble_eq_true rfl)) (SP_X1_testAt_F hM.P hr hv) ?_
  exact xx_out0 rfl (by rw [xExc_tag]; decide) (by rw [xExc_tag]; decide) (by rw [xExc_own]; decide) ⟨rfl, rfl⟩

theorem SP_X1_testOf_F3 {d : Nat} {g : xG} {x p lk fa ka la n rr ww : Nat} {Z : xAd} {S : xMS} (hM : xMn g x p lk fa ka la Z S n rr ww) {r j : Nat} {v : Int32} (hr : r < rr) (hj : j < (aT Z r).length) (hv : ¬ inR v (nI 0) (nI 2) = true) : XM M_X1_testOf (d + 80) [.ref x, .int (nI r), .int (nI j), .int v] g (xThr (xsz g) (xExc g 22)) := by
  have hlr := hM.P.lr
  have r16 := hM.P.wf.r16
  refine xm_of (by decide +kernel) (Nat.le_of_ble_eq_true rfl) ?_
  show XW _ _ 0 [(0, _), (1, _), (2, _), (3, _)] [] _ _
  refine xw_aload_n (pc := 0) dX1_testOf_0 0 rfl ?_
  refine xw_aload_n (pc := 1) dX1_testOf_1 0 rfl ?_
  refine xw_getS (b := p) (pc := 2) fd_X1_10 dX1_testOf_2 (by first | assumption | (simp [-List.getD_eq_getElem?_getD, xE_setI, xsz_setI, xsl_setI, xtag_setI, xown_setI, xlen_setI, xE_setR, xsz_setR, xsl_setR, xtag_setR, xown_setR, xlen_setR, xE_setW, xsz_setW, xsl_setW, xtag_setW, xown_setW, xlen_setW, xi_setR, xi_setW, xr_setI, xr_setW, xww_setI, xww_setR, xi_setI, xr_setR, xww_setW, xE_new, xsz_new, xsl_new, hM.tx, hM.xp, hM.l3, xsub]; done) | (simp [-List.getD_eq_getElem?_getD, xE_setI, xsz_setI, xsl_setI, xtag_setI, xown_setI, xlen_setI, xE_setR, xsz_setR, xsl_setR, xtag_setR, xown_setR, xlen_setR, xE_setW, xsz_setW, xsl_setW, xtag_setW, xown_setW, xlen_setW, xi_setR, xi_setW, xr_setI, xr_setW, xww_setI, xww_setR, xi_setI, xr_setR, xww_setW, xE_new, xsz_new, xsl_new, hM.tx, hM.xp, hM.l3] <;> rfl)) (by simp [-List.getD_eq_getElem?_getD, xE_setI, xsz_setI, xsl_setI, xtag_setI, xown_setI, xlen_setI, xE_setR, xsz_setR, xsl_setR, xtag_setR, xown_setR, xlen_setR, xE_setW, xsz_setW, xsl_setW, xtag_setW, xown_setW, xlen_setW, xi_setR, xi_setW, xr_setI, xr_setW, xww_setI, xww_setR, xi_setI, xr_setR, xww_setW, xE_new, xsz_new, xsl_new, hM.tx, hM.xp, hM.l3]) ?_
  refine xw_iload_n (pc := 5) dX1_testOf_5 1 rfl ?_
  refine xw_callV (pc := 6) (xr_V (as := [_]) ok_X2_rule rfl (by decide) q1338 q1339 q1340 (by rw [hM.P.tag]; rfl) (by rw [hM.P.tag]; rfl) dX1_testOf_6 rfl rfl (Nat.le_of_ble_eq_true rfl)) (SP_X2_rule hM.P.pl r (by omega) (hM.P.ru hr).1) ?_
  refine xw_iload_n (pc := 9) dX1_testOf_9 2 rfl ?_
  refine xw_callV (pc := 10) (xr_V (as := [_, _]) ok_X1_testAt rfl (by decide) q1491 q1493 qs25 (by rw [hM.tx]; rfl) (by rw [hM.tx]; rfl) dX1_testOf_10 rfl rfl (Nat.le_of_ble_eq_true rfl)) (SP_X1_testAt hM.P hr hj) ?_
  refine xw_astore (l' := [(4, _), (0, _), (1, _), (2, _), (3, _)]) (pc := 13) dX1_testOf_13 (by decide) rfl ?_
  refine xw_iload_n (pc := 15) dX1_testOf_15 4 rfl ?_
  refine xw_iconst (v := nI 0) (pc := 16) dX1_testOf_16 rfl ?_
  refine xw_iconst (v := nI 2) (pc := 17) dX1_testOf_17 rfl ?_
  refine xw_callV (pc := 18) (xr_S (as := [_, _, _]) ok_X1_isIn rfl (by decide) q1180 q784 dX1_testOf_18 rfl rfl (Nat.le_of_ble_eq_true rfl)) (SP_X1_isInF hv) ?_
  refine xw_callX (pc := 21) (xr_S (as := [_]) ok_X1_check rfl (by decide) q1181 q1182 dX1_testOf_21 rfl rfl (Nat.le_of_ble_eq_true rfl)) (SP_X1_check_F) ?_
  exact xx_out0 rfl (by rw [xExc_tag]; decide) (by rw [xExc_tag]; decide) (by rw [xExc_own]; decide) ⟨rfl, rfl⟩

theorem SP_X1_testOf0 {d : Nat} {g : xG} {x p lk fa ka la n rr ww : Nat} {Z : xAd} {S : xMS} (hM : xMn g x p lk fa ka la Z S n rr ww) {r j : Nat} (hr : r < rr) (hj : j < (aT Z r).length) : XM M_X1_testOf (d + 80) [.ref x, .int (nI r), .int (nI j), .int (nI 0)] g (xOne (some (.int (S 1 (23 + 20 * r + (8 + 3 * j))))) g) := by
  have hlr := hM.P.lr
  have r16 := hM.P.wf.r16
  have ts := (hM.P.ru hr).2.2.2.2.2.2.2.2.2.1
  have hq := ts.2 j hj
  have h75 := (hM.P.wf.ru hr)
  have hw := h75.2.2.2.2.2.2.2.2 j (by rw [← ts.1]; exact hj)
  refine xm_of (by decide +kernel) (Nat.le_of_ble_eq_true rfl) ?_
  show XW _ _ 0 [(0, _), (1, _), (2, _), (3, _)] [] _ _
  refine xw_aload_n (pc := 0) dX1_testOf_0 0 rfl ?_
  refine xw_aload_n (pc := 1) dX1_testOf_1 0 rfl ?_
  refine xw_getS (b := p) (pc := 2) fd_X1_10 dX1_testOf_2 (by first | assumption | (simp [-List.getD_eq_getElem?_getD, xE_setI, xsz_setI, xsl_setI, xtag_setI, xown_setI, xlen_setI, xE_setR, xsz_setR, xsl_setR, xtag_setR, xown_setR, xlen_setR, xE_setW, xsz_setW, xsl_setW, xtag_setW, xown_setW, xlen_setW, xi_setR, xi_setW, xr_setI, xr_setW, xww_setI, xww_setR, xi_setI, xr_setR, xww_setW, xE_new, xsz_new, xsl_new, hM.tx, hM.xp, hM.l3, xsub]; done) | (simp [-List.getD_eq_getElem?_getD, xE_setI, xsz_setI, xsl_setI, xtag_setI, xown_setI, xlen_setI, xE_setR, xsz_setR, xsl_setR, xtag_setR, xown_setR, xlen_setR, xE_setW, xsz_setW, xsl_setW, xtag_setW, xown_setW, xlen_setW, xi_setR, xi_setW, xr_setI, xr_setW, xww_setI, xww_setR, xi_setI, xr_setR, xww_setW, xE_new, xsz_new, xsl_new, hM.tx, hM.xp, hM.l3] <;> rfl)) (by simp [-List.getD_eq_getElem?_getD, xE_setI, xsz_setI, xsl_setI, xtag_setI, xown_setI, xlen_setI, xE_setR, xsz_setR, xsl_setR, xtag_setR, xown_setR, xlen_setR, xE_setW, xsz_setW, xsl_setW, xtag_setW, xown_setW, xlen_setW, xi_setR, xi_setW, xr_setI, xr_setW, xww_setI, xww_setR, xi_setI, xr_setR, xww_setW, xE_new, xsz_new, xsl_new, hM.tx, hM.xp, hM.l3]) ?_
  refine xw_iload_n (pc := 5) dX1_testOf_5 1 rfl ?_
  refine xw_callV (pc := 6) (xr_V (as := [_]) ok_X2_rule rfl (by decide) q1338 q1339 q1340 (by rw [hM.P.tag]; rfl) (by rw [hM.P.tag]; rfl) dX1_testOf_6 rfl rfl (Nat.le_of_ble_eq_true rfl)) (SP_X2_rule hM.P.pl r (by omega) (hM.P.ru hr).1) ?_
  refine xw_iload_n (pc := 9) dX1_testOf_9 2 rfl ?_
  refine xw_callV (pc := 10) (xr_V (as := [_, _]) ok_X1_testAt rfl (by decide) q1491 q1493 qs25 (by rw [hM.tx]; rfl) (by rw [hM.tx]; rfl) dX1_testOf_10 rfl rfl (Nat.le_of_ble_eq_true rfl)) (SP_X1_testAt hM.P hr hj) ?_
  refine xw_astore (l' := [(4, _), (0, _), (1, _), (2, _), (3, _)]) (pc := 13) dX1_testOf_13 (by decide) rfl ?_
  refine xw_iload_n (pc := 15) dX1_testOf_15 4 rfl ?_
  refine xw_iconst (v := nI 0) (pc := 16) dX1_testOf_16 rfl ?_
  refine xw_iconst (v := nI 2) (pc := 17) dX1_testOf_17 rfl ?_
  refine xw_callV (pc := 18) (xr_S (as := [_, _, _]) ok_X1_isIn rfl (by decide) q1180 q784 dX1_testOf_18 rfl rfl (Nat.le_of_ble_eq_true rfl)) (SP_X1_isInT (by decide)) ?_
  refine xw_callU (pc := 21) (xr_S (as := [_]) ok_X1_check rfl (by decide) q1181 q1182 dX1_testOf_21 rfl rfl (Nat.le_of_ble_eq_true rfl)) (SP_X1_check_T) ?_
  refine xw_iload_n (pc := 24) dX1_testOf_24 4 rfl ?_
  refine xw_if_ne (pc := 25) 36 dX1_testOf_25 rfl (fun hb => absurd hb (by decide)) (fun _ => ?_)
  refine xw_aload (pc := 28) dX1_testOf_28 0 rfl ?_
  refine xw_feature (pc := 30) hq.1 hq.2.1 dX1_testOf_30 q1500 (Nat.le_of_ble_eq_true rfl) ?_
  refine xw_goto (pc := 33) 54 dX1_testOf_33 rfl ?_
  rw [hq.2.2.2.1]
  refine xw_iret (pc := 54) .int dX1_testOf_54 rfl ?_ 
  exact ⟨rfl, rfl⟩

theorem SP_X1_testOf1 {d : Nat} {g : xG} {x p lk fa ka la n rr ww : Nat} {Z : xAd} {S : xMS} (hM : xMn g x p lk fa ka la Z S n rr ww) {r j : Nat} (hr : r < rr) (hj : j < (aT Z r).length) : XM M_X1_testOf (d + 80) [.ref x, .int (nI r), .int (nI j), .int (nI 1)] g (xOne (some (.int (S 1 (23 + 20 * r + (8 + 3 * j + 1))))) g) := by
  have hlr := hM.P.lr
  have r16 := hM.P.wf.r16
  have ts := (hM.P.ru hr).2.2.2.2.2.2.2.2.2.1
  have hq := ts.2 j hj
  have h75 := (hM.P.wf.ru hr)
  have hw := h75.2.2.2.2.2.2.2.2 j (by rw [← ts.1]; exact hj)
  refine xm_of (by decide +kernel) (Nat.le_of_ble_eq_true rfl) ?_
  show XW _ _ 0 [(0, _), (1, _), (2, _), (3, _)] [] _ _
  refine xw_aload_n (pc := 0) dX1_testOf_0 0 rfl ?_
  refine xw_aload_n (pc := 1) dX1_testOf_1 0 rfl ?_
  refine xw_getS (b := p) (pc := 2) fd_X1_10 dX1_testOf_2 (by first | assumption | (simp [-List.getD_eq_getElem?_getD, xE_setI, xsz_setI, xsl_setI, xtag_setI, xown_setI, xlen_setI, xE_setR, xsz_setR, xsl_setR, xtag_setR, xown_setR, xlen_setR, xE_setW, xsz_setW, xsl_setW, xtag_setW, xown_setW, xlen_setW, xi_setR, xi_setW, xr_setI, xr_setW, xww_setI, xww_setR, xi_setI, xr_setR, xww_setW, xE_new, xsz_new, xsl_new, hM.tx, hM.xp, hM.l3, xsub]; done) | (simp [-List.getD_eq_getElem?_getD, xE_setI, xsz_setI, xsl_setI, xtag_setI, xown_setI, xlen_setI, xE_setR, xsz_setR, xsl_setR, xtag_setR, xown_setR, xlen_setR, xE_setW, xsz_setW, xsl_setW, xtag_setW, xown_setW, xlen_setW, xi_setR, xi_setW, xr_setI, xr_setW, xww_setI, xww_setR, xi_setI, xr_setR, xww_setW, xE_new, xsz_new, xsl_new, hM.tx, hM.xp, hM.l3] <;> rfl)) (by simp [-List.getD_eq_getElem?_getD, xE_setI, xsz_setI, xsl_setI, xtag_setI, xown_setI, xlen_setI, xE_setR, xsz_setR, xsl_setR, xtag_setR, xown_setR, xlen_setR, xE_setW, xsz_setW, xsl_setW, xtag_setW, xown_setW, xlen_setW, xi_setR, xi_setW, xr_setI, xr_setW, xww_setI, xww_setR, xi_setI, xr_setR, xww_setW, xE_new, xsz_new, xsl_new, hM.tx, hM.xp, hM.l3]) ?_
  refine xw_iload_n (pc := 5) dX1_testOf_5 1 rfl ?_
  refine xw_callV (pc := 6) (xr_V (as := [_]) ok_X2_rule rfl (by decide) q1338 q1339 q1340 (by rw [hM.P.tag]; rfl) (by rw [hM.P.tag]; rfl) dX1_testOf_6 rfl rfl (Nat.le_of_ble_eq_true rfl)) (SP_X2_rule hM.P.pl r (by omega) (hM.P.ru hr).1) ?_
  refine xw_iload_n (pc := 9) dX1_testOf_9 2 rfl ?_
  refine xw_callV (pc := 10) (xr_V (as := [_, _]) ok_X1_testAt rfl (by decide) q1491 q1493 qs25 (by rw [hM.tx]; rfl) (by rw [hM.tx]; rfl) dX1_testOf_10 rfl rfl (Nat.le_of_ble_eq_true rfl)) (SP_X1_testAt hM.P hr hj) ?_
  refine xw_astore (l' := [(4, _), (0, _), (1, _), (2, _), (3, _)]) (pc := 13) dX1_testOf_13 (by decide) rfl ?_
  refine xw_iload_n (pc := 15) dX1_testOf_15 4 rfl ?_
  refine xw_iconst (v := nI 0) (pc := 16) dX1_testOf_16 rfl ?_
  refine xw_iconst (v := nI 2) (pc := 17) dX1_testOf_17 rfl ?_
  refine xw_callV (pc := 18) (xr_S (as := [_, _, _]) ok_X1_isIn rfl (by decide) q1180 q784 dX1_testOf_18 rfl rfl (Nat.le_of_ble_eq_true rfl)) (SP_X1_isInT (by decide)) ?_
  refine xw_callU (pc := 21) (xr_S (as := [_]) ok_X1_check rfl (by decide) q1181 q1182 dX1_testOf_21 rfl rfl (Nat.le_of_ble_eq_true rfl)) (SP_X1_check_T) ?_
  refine xw_iload_n (pc := 24) dX1_testOf_24 4 rfl ?_
  refine xw_if_ne (pc := 25) 36 dX1_testOf_25 rfl (fun _ => ?_) (fun hb => absurd hb (by decide))
  refine xw_iload_n (pc := 36) dX1_testOf_36 4 rfl ?_
  refine xw_iconst (v := nI 1) (pc := 37) dX1_testOf_37 rfl ?_
  refine xw_icmp_ne (pc := 38) 49 dX1_testOf_38 rfl (fun hb => absurd hb (by decide)) (fun _ => ?_)
  refine xw_aload (pc := 41) dX1_testOf_41 0 rfl ?_
  refine xw_callV (pc := 43) (xr_S (as := [_]) ok_X1_signOf rfl (by decide) q1501 q1502 dX1_testOf_43 rfl rfl (Nat.le_of_ble_eq_true rfl)) (SP_X1_signOf hq.1 hq.2.1) ?_
  refine xw_goto (pc := 46) 54 dX1_testOf_46 rfl ?_
  rw [hq.2.2.1, ← hw.2.1.1]
  refine xw_iret (pc := 54) .int dX1_testOf_54 rfl ?_ 
  exact ⟨rfl, rfl⟩

theorem SP_X1_testOf2 {d : Nat} {g : xG} {x p lk fa ka la n rr ww : Nat} {Z : xAd} {S : xMS} (hM : xMn g x p lk fa ka la Z S n rr ww) {r j : Nat} (hr : r < rr) (hj : j < (aT Z r).length) : XM M_X1_testOf (d + 80) [.ref x, .int (nI r), .int (nI j), .int (nI 2)] g (xOne (some (.int (S 1 (23 + 20 * r + (8 + 3 * j + 2))))) g) := by
  have hlr := hM.P.lr
  have r16 := hM.P.wf.r16
  have ts := (hM.P.ru hr).2.2.2.2.2.2.2.2.2.1
  have hq := ts.2 j hj
  have h75 := (hM.P.wf.ru hr)
  have hw := h75.2.2.2.2.2.2.2.2 j (by rw [← ts.1]; exact hj)
  refine xm_of (by decide +kernel) (Nat.le_of_ble_eq_true rfl) ?_
  show XW _ _ 0 [(0, _), (1, _), (2, _), (3, _)] [] _ _
  refine xw_aload_n (pc := 0) dX1_testOf_0 0 rfl ?_
  refine xw_aload_n (pc := 1) dX1_testOf_1 0 rfl ?_
  refine xw_getS (b := p) (pc := 2) fd_X1_10 dX1_testOf_2 (by first | assumption | (simp [-List.getD_eq_getElem?_getD, xE_setI, xsz_setI, xsl_setI, xtag_setI, xown_setI, xlen_setI, xE_setR, xsz_setR, xsl_setR, xtag_setR, xown_setR, xlen_setR, xE_setW, xsz_setW, xsl_setW, xtag_setW, xown_setW, xlen_setW, xi_setR, xi_setW, xr_setI, xr_setW, xww_setI, xww_setR, xi_setI, xr_setR, xww_setW, xE_new, xsz_new, xsl_new, hM.tx, hM.xp, hM.l3, xsub]; done) | (simp [-List.getD_eq_getElem?_getD, xE_setI, xsz_setI, xsl_setI, xtag_setI, xown_setI, xlen_setI, xE_setR, xsz_setR, xsl_setR, xtag_setR, xown_setR, xlen_setR, xE_setW, xsz_setW, xsl_setW, xtag_setW, xown_setW, xlen_setW, xi_setR, xi_setW, xr_setI, xr_setW, xww_setI, xww_setR, xi_setI, xr_setR, xww_setW, xE_new, xsz_new, xsl_new, hM.tx, hM.xp, hM.l3] <;> rfl)) (by simp [-List.getD_eq_getElem?_getD, xE_setI, xsz_setI, xsl_setI, xtag_setI, xown_setI, xlen_setI, xE_setR, xsz_setR, xsl_setR, xtag_setR, xown_setR, xlen_setR, xE_setW, xsz_setW, xsl_setW, xtag_setW, xown_setW, xlen_setW, xi_setR, xi_setW, xr_setI, xr_setW, xww_setI, xww_setR, xi_setI, xr_setR, xww_setW, xE_new, xsz_new, xsl_new, hM.tx, hM.xp, hM.l3]) ?_
  refine xw_iload_n (pc := 5) dX1_testOf_5 1 rfl ?_
  refine xw_callV (pc := 6) (xr_V (as := [_]) ok_X2_rule rfl (by decide) q1338 q1339 q1340 (by rw [hM.P.tag]; rfl) (by rw [hM.P.tag]; rfl) dX1_testOf_6 rfl rfl (Nat.le_of_ble_eq_true rfl)) (SP_X2_rule hM.P.pl r (by omega) (hM.P.ru hr).1) ?_
  refine xw_iload_n (pc := 9) dX1_testOf_9 2 rfl ?_
  refine xw_callV (pc := 10) (xr_V (as := [_, _]) ok_X1_testAt rfl (by decide) q1491 q1493 qs25 (by rw [hM.tx]; rfl) (by rw [hM.tx]; rfl) dX1_testOf_10 rfl rfl (Nat.le_of_ble_eq_true rfl)) (SP_X1_testAt hM.P hr hj) ?_
  refine xw_astore (l' := [(4, _), (0, _), (1, _), (2, _), (3, _)]) (pc := 13) dX1_testOf_13 (by decide) rfl ?_
  refine xw_iload_n (pc := 15) dX1_testOf_15 4 rfl ?_
  refine xw_iconst (v := nI 0) (pc := 16) dX1_testOf_16 rfl ?_
  refine xw_iconst (v := nI 2) (pc := 17) dX1_testOf_17 rfl ?_
  refine xw_callV (pc := 18) (xr_S (as := [_, _, _]) ok_X1_isIn rfl (by decide) q1180 q784 dX1_testOf_18 rfl rfl (Nat.le_of_ble_eq_true rfl)) (SP_X1_isInT (by decide)) ?_
  refine xw_callU (pc := 21) (xr_S (as := [_]) ok_X1_check rfl (by decide) q1181 q1182 dX1_testOf_21 rfl rfl (Nat.le_of_ble_eq_true rfl)) (SP_X1_check_T) ?_
  refine xw_iload_n (pc := 24) dX1_testOf_24 4 rfl ?_
  refine xw_if_ne (pc := 25) 36 dX1_testOf_25 rfl (fun _ => ?_) (fun hb => absurd hb (by decide))
  refine xw_iload_n (pc := 36) dX1_testOf_36 4 rfl ?_
  refine xw_iconst (v := nI 1) (pc := 37) dX1_testOf_37 rfl ?_
  refine xw_icmp_ne (pc := 38) 49 dX1_testOf_38 rfl (fun _ => ?_) (fun hb => absurd hb (by decide))
  refine xw_aload (pc := 49) dX1_testOf_49 0 rfl ?_
  refine xw_tdigit (pc := 51) hq.1 hq.2.1 dX1_testOf_51 q1504 (Nat.le_of_ble_eq_true rfl) ?_
  rw [hq.2.2.2.2]
  refine xw_iret (pc := 54) .int dX1_testOf_54 rfl ?_ 
  exact ⟨rfl, rfl⟩

theorem SP_X1_scopeOf_F {d : Nat} {g : xG} {x p lk fa ka la n rr ww : Nat} {Z : xAd} {S : xMS} (hM : xMn g x p lk fa ka la Z S n rr ww) {v e : Int32} (hv : ¬ inR v (nI 0) (nI n - nI 1) = true) : XM M_X1_scopeOf (d + 80) [.ref x, .int v, .int e] g (xThr (xsz g) (xExc g 23)) := by
  have hlc := hM.P.lc
  have n10 := hM.P.wf.n10
  refine xm_of (by decide +kernel) (Nat.le_of_ble_eq_true rfl) ?_
  show XW _ _ 0 [(0, _), (1, _), (2, _)] [] _ _
  refine xw_aload_n (pc := 0) dX1_scopeOf_0 0 rfl ?_
  refine xw_getS (b := p) (pc := 1) fd_X1_10 dX1_scopeOf_1 (by first | assumption | (simp [-List.getD_eq_getElem?_getD, xE_setI, xsz_setI, xsl_setI, xtag_setI, xown_setI, xlen_setI, xE_setR, xsz_setR, xsl_setR, xtag_setR, xown_setR, xlen_setR, xE_setW, xsz_setW, xsl_setW, xtag_setW, xown_setW, xlen_setW, xi_setR, xi_setW, xr_setI, xr_setW, xww_setI, xww_setR, xi_setI, xr_setR, xww_setW, xE_new, xsz_new, xsl_new, hM.tx, hM.xp, hM.l3, xsub]; done) | (simp [-List.getD_eq_getElem?_getD, xE_setI, xsz_setI, xsl_setI, xtag_setI, xown_setI, xlen_setI, xE_setR, xsz_setR, xsl_setR, xtag_setR, xown_setR, xlen_setR, xE_setW, xsz_setW, xsl_setW, xtag_setW, xown_setW, xlen_setW, xi_setR, xi_setW, xr_setI, xr_setW, xww_setI, xww_setR, xi_setI, xr_setR, xww_setW, xE_new, xsz_new, xsl_new, hM.tx, hM.xp, hM.l3] <;> rfl)) (by simp [-List.getD_eq_getElem?_getD, xE_setI, xsz_setI, xsl_setI, xtag_setI, xown_setI, xlen_setI, xE_setR, xsz_setR, xsl_setR, xtag_setR, xown_setR, xlen_setR, xE_setW, xsz_setW, xsl_setW, xtag_setW, xown_setW, xlen_setW, xi_setR, xi_setW, xr_setI, xr_setW, xww_setI, xww_setR, xi_setI, xr_setR, xww_setW, xE_new, xsz_new, xsl_new, hM.tx, hM.xp, hM.l3]) ?_
  refine xw_iload_n (pc := 4) dX1_scopeOf_4 1 rfl ?_
  refine xw_callX (pc := 5) (xr_V (as := [_]) ok_X2_scope rfl (by decide) q1056 q1057 q1058 (by rw [hM.P.tag]; rfl) (by rw [hM.P.tag]; rfl) dX1_scopeOf_5 rfl rfl (Nat.le_of_ble_eq_true rfl)) (SP_X2_scope_F hM.P.pl v (by rw [hlc]; exact hv)) ?_
  exact xx_out0 rfl (by rw [xExc_tag]; decide) (by rw [xExc_tag]; decide) (by rw [xExc_own]; decide) ⟨rfl, rfl⟩

theorem SP_X1_scopeOf_F2 {d : Nat} {g : xG} {x p lk fa ka la n rr ww : Nat} {Z : xAd} {S : xMS} (hM : xMn g x p lk fa ka la Z S n rr ww) {k : Nat} {e : Int32} (hk : k < n) (he : ¬ inR e (nI 0) (nI 4) = true) : XM M_X1_scopeOf (d + 80) [.ref x, .int (nI k), .int e] g (xThr (xsz g) (xExc g 22)) := by
  have hlc := hM.P.lc
  have n10 := hM.P.wf.n10
  refine xm_of (by decide +kernel) (Nat.le_of_ble_eq_true rfl) ?_
  show XW _ _ 0 [(0, _), (1, _), (2, _)] [] _ _
  refine xw_aload_n (pc := 0) dX1_scopeOf_0 0 rfl ?_
  refine xw_getS (b := p) (pc := 1) fd_X1_10 dX1_scopeOf_1 (by first | assumption | (simp [-List.getD_eq_getElem?_getD, xE_setI, xsz_setI, xsl_setI, xtag_setI, xown_setI, xlen_setI, xE_setR, xsz_setR, xsl_setR, xtag_setR, xown_setR, xlen_setR, xE_setW, xsz_setW, xsl_setW, xtag_setW, xown_setW, xlen_setW, xi_setR, xi_setW, xr_setI, xr_setW, xww_setI, xww_setR, xi_setI, xr_setR, xww_setW, xE_new, xsz_new, xsl_new, hM.tx, hM.xp, hM.l3, xsub]; done) | (simp [-List.getD_eq_getElem?_getD, xE_setI, xsz_setI, xsl_setI, xtag_setI, xown_setI, xlen_setI, xE_setR, xsz_setR, xsl_setR, xtag_setR, xown_setR, xlen_setR, xE_setW, xsz_setW, xsl_setW, xtag_setW, xown_setW, xlen_setW, xi_setR, xi_setW, xr_setI, xr_setW, xww_setI, xww_setR, xi_setI, xr_setR, xww_setW, xE_new, xsz_new, xsl_new, hM.tx, hM.xp, hM.l3] <;> rfl)) (by simp [-List.getD_eq_getElem?_getD, xE_setI, xsz_setI, xsl_setI, xtag_setI, xown_setI, xlen_setI, xE_setR, xsz_setR, xsl_setR, xtag_setR, xown_setR, xlen_setR, xE_setW, xsz_setW, xsl_setW, xtag_setW, xown_setW, xlen_setW, xi_setR, xi_setW, xr_setI, xr_setW, xww_setI, xww_setR, xi_setI, xr_setR, xww_setW, xE_new, xsz_new, xsl_new, hM.tx, hM.xp, hM.l3]) ?_
  refine xw_iload_n (pc := 4) dX1_scopeOf_4 1 rfl ?_
  refine xw_callV (pc := 5) (xr_V (as := [_]) ok_X2_scope rfl (by decide) q1056 q1057 q1058 (by rw [hM.P.tag]; rfl) (by rw [hM.P.tag]; rfl) dX1_scopeOf_5 rfl rfl (Nat.le_of_ble_eq_true rfl)) (SP_X2_scope hM.P.pl k (by omega) (hM.P.so' hk)) ?_
  refine xw_astore_n (l' := [(3, _), (0, _), (1, _), (2, _)]) (pc := 8) dX1_scopeOf_8 rfl (by decide) rfl ?_
  refine xw_iload_n (pc := 9) dX1_scopeOf_9 3 rfl ?_
  refine xw_iconst (v := nI 0) (pc := 10) dX1_scopeOf_10 rfl ?_
  refine xw_iconst (v := nI 4) (pc := 11) dX1_scopeOf_11 rfl ?_
  refine xw_callV (pc := 12) (xr_S (as := [_, _, _]) ok_X1_isIn rfl (by decide) q1180 q784 dX1_scopeOf_12 rfl rfl (Nat.le_of_ble_eq_true rfl)) (SP_X1_isInF he) ?_
  refine xw_callX (pc := 15) (xr_S (as := [_]) ok_X1_check rfl (by decide) q1181 q1182 dX1_scopeOf_15 rfl rfl (Nat.le_of_ble_eq_true rfl)) (SP_X1_check_F) ?_
  exact xx_out0 rfl (by rw [xExc_tag]; decide) (by rw [xExc_tag]; decide) (by rw [xExc_own]; decide) ⟨rfl, rfl⟩

theorem SP_X1_scopeOf0Z {d : Nat} {g : xG} {x p lk fa ka la n rr ww : Nat} {Z : xAd} {S : xMS} (hM : xMn g x p lk fa ka la Z S n rr ww) {k : Nat} (hk : k < n) (hz : k = 0) : XM M_X1_scopeOf (d + 80) [.ref x, .int (nI k), .int (nI 0)] g (xOne (some (.int (S 1 (3 + 2 * k)))) g) := by
  have hlc := hM.P.lc
  have n10 := hM.P.wf.n10
  obtain ⟨sc1, sc2, sc3, sc4⟩ := hM.P.sc k hk
  have tk : xtag g ((aC Z).getD k 0) = 3 := sc1
  have fk0 : xr g ((aC Z).getD k 0) 0 = if k = 0 then none else some ((aC Z).getD (ou (S 1) k) 0) := sc3
  have fk2 : xr g ((aC Z).getD k 0) 2 = effO g (S 1 (4 + 2 * k)) := sc4
  rw [if_pos hz] at fk0
  refine xm_of (by decide +kernel) (Nat.le_of_ble_eq_true rfl) ?_
  show XW _ _ 0 [(0, _), (1, _), (2, _)] [] _ _
  refine xw_aload_n (pc := 0) dX1_scopeOf_0 0 rfl ?_
  refine xw_getS (b := p) (pc := 1) fd_X1_10 dX1_scopeOf_1 (by first | assumption | (simp [-List.getD_eq_getElem?_getD, xE_setI, xsz_setI, xsl_setI, xtag_setI, xown_setI, xlen_setI, xE_setR, xsz_setR, xsl_setR, xtag_setR, xown_setR, xlen_setR, xE_setW, xsz_setW, xsl_setW, xtag_setW, xown_setW, xlen_setW, xi_setR, xi_setW, xr_setI, xr_setW, xww_setI, xww_setR, xi_setI, xr_setR, xww_setW, xE_new, xsz_new, xsl_new, hM.tx, hM.xp, hM.l3, tk, fk0, xsub]; done) | (simp [-List.getD_eq_getElem?_getD, xE_setI, xsz_setI, xsl_setI, xtag_setI, xown_setI, xlen_setI, xE_setR, xsz_setR, xsl_setR, xtag_setR, xown_setR, xlen_setR, xE_setW, xsz_setW, xsl_setW, xtag_setW, xown_setW, xlen_setW, xi_setR, xi_setW, xr_setI, xr_setW, xww_setI, xww_setR, xi_setI, xr_setR, xww_setW, xE_new, xsz_new, xsl_new, hM.tx, hM.xp, hM.l3, tk, fk0] <;> rfl)) (by simp [-List.getD_eq_getElem?_getD, xE_setI, xsz_setI, xsl_setI, xtag_setI, xown_setI, xlen_setI, xE_setR, xsz_setR, xsl_setR, xtag_setR, xown_setR, xlen_setR, xE_setW, xsz_setW, xsl_setW, xtag_setW, xown_setW, xlen_setW, xi_setR, xi_setW, xr_setI, xr_setW, xww_setI, xww_setR, xi_setI, xr_setR, xww_setW, xE_new, xsz_new, xsl_new, hM.tx, hM.xp, hM.l3, tk, fk0]) ?_
  refine xw_iload_n (pc := 4) dX1_scopeOf_4 1 rfl ?_
  refine xw_callV (pc := 5) (xr_V (as := [_]) ok_X2_scope rfl (by decide) q1056 q1057 q1058 (by rw [hM.P.tag]; rfl) (by rw [hM.P.tag]; rfl) dX1_scopeOf_5 rfl rfl (Nat.le_of_ble_eq_true rfl)) (SP_X2_scope hM.P.pl k (by omega) (hM.P.so' hk)) ?_
  refine xw_astore_n (l' := [(3, _), (0, _), (1, _), (2, _)]) (pc := 8) dX1_scopeOf_8 rfl (by decide) rfl ?_
  refine xw_iload_n (pc := 9) dX1_scopeOf_9 3 rfl ?_
  refine xw_iconst (v := nI 0) (pc := 10) dX1_scopeOf_10 rfl ?_
  refine xw_iconst (v := nI 4) (pc := 11) dX1_scopeOf_11 rfl ?_
  refine xw_callV (pc := 12) (xr_S (as := [_, _, _]) ok_X1_isIn rfl (by decide) q1180 q784 dX1_scopeOf_12 rfl rfl (Nat.le_of_ble_eq_true rfl)) (SP_X1_isInT (by decide)) ?_
  refine xw_callU (pc := 15) (xr_S (as := [_]) ok_X1_check rfl (by decide) q1181 q1182 dX1_scopeOf_15 rfl rfl (Nat.le_of_ble_eq_true rfl)) (SP_X1_check_T) ?_
  refine xw_iload_n (pc := 18) dX1_scopeOf_18 3 rfl ?_
  refine xw_tableIn (x := nI 0) (pc := 19) 48 dX1_scopeOf_19 (by decide) (by decide) rfl rfl ?_
  refine xw_aload_n (pc := 48) dX1_scopeOf_48 0 rfl ?_
  refine xw_getN (pc := 49) fd_X1_202 dX1_scopeOf_49 (by first | assumption | (simp [-List.getD_eq_getElem?_getD, xE_setI, xsz_setI, xsl_setI, xtag_setI, xown_setI, xlen_setI, xE_setR, xsz_setR, xsl_setR, xtag_setR, xown_setR, xlen_setR, xE_setW, xsz_setW, xsl_setW, xtag_setW, xown_setW, xlen_setW, xi_setR, xi_setW, xr_setI, xr_setW, xww_setI, xww_setR, xi_setI, xr_setR, xww_setW, xE_new, xsz_new, xsl_new, hM.tx, hM.xp, hM.l3, tk, fk0, xsub]; done) | (simp [-List.getD_eq_getElem?_getD, xE_setI, xsz_setI, xsl_setI, xtag_setI, xown_setI, xlen_setI, xE_setR, xsz_setR, xsl_setR, xtag_setR, xown_setR, xlen_setR, xE_setW, xsz_setW, xsl_setW, xtag_setW, xown_setW, xlen_setW, xi_setR, xi_setW, xr_setI, xr_setW, xww_setI, xww_setR, xi_setI, xr_setR, xww_setW, xE_new, xsz_new, xsl_new, hM.tx, hM.xp, hM.l3, tk, fk0] <;> rfl)) (by simp [-List.getD_eq_getElem?_getD, xE_setI, xsz_setI, xsl_setI, xtag_setI, xown_setI, xlen_setI, xE_setR, xsz_setR, xsl_setR, xtag_setR, xown_setR, xlen_setR, xE_setW, xsz_setW, xsl_setW, xtag_setW, xown_setW, xlen_setW, xi_setR, xi_setW, xr_setI, xr_setW, xww_setI, xww_setR, xi_setI, xr_setR, xww_setW, xE_new, xsz_new, xsl_new, hM.tx, hM.xp, hM.l3, tk, fk0]) ?_
  refine xw_ifnonnullN (pc := 52) dX1_scopeOf_52 ?_
  refine xw_iconst (v := -1) (pc := 55) dX1_scopeOf_55 (by decide +kernel) ?_
  refine xw_goto (pc := 56) 66 dX1_scopeOf_56 rfl ?_
  refine xw_iret (pc := 66) .int dX1_scopeOf_66 rfl ?_ 
  exact ⟨by rw [hz, show 3 + 2 * 0 = 3 from rfl, hM.P.wf.o.1], rfl⟩

theorem SP_X1_scopeOf0 {d : Nat} {g : xG} {x p lk fa ka la n rr ww : Nat} {Z : xAd} {S : xMS} (hM : xMn g x p lk fa ka la Z S n rr ww) {k : Nat} (hk : k < n) (hz : k ≠ 0) : XM M_X1_scopeOf (d + 80) [.ref x, .int (nI k), .int (nI 0)] g (xOne (some (.int (S 1 (3 + 2 * k)))) g) := by
  have hlc := hM.P.lc
  have n10 := hM.P.wf.n10
  obtain ⟨sc1, sc2, sc3, sc4⟩ := hM.P.sc k hk
  have tk : xtag g ((aC Z).getD k 0) = 3 := sc1
  have fk0 : xr g ((aC Z).getD k 0) 0 = if k = 0 then none else some ((aC Z).getD (ou (S 1) k) 0) := sc3
  have fk2 : xr g ((aC Z).getD k 0) 2 = effO g (S 1 (4 + 2 * k)) := sc4
  rw [if_neg hz] at fk0
  have hou := (hM.P.wf.o.2 k (by omega) hk).2
  have tko : xtag g ((aC Z).getD (ou (S 1) k) 0) = 3 := hM.P.so' (by omega)
  have fko : xi g ((aC Z).getD (ou (S 1) k) 0) 1 = nI (ou (S 1) k) := (hM.P.sc (ou (S 1) k) (by omega)).2.1
  refine xm_of (by decide +kernel) (Nat.le_of_ble_eq_true rfl) ?_
  show XW _ _ 0 [(0, _), (1, _), (2, _)] [] _ _
  refine xw_aload_n (pc := 0) dX1_scopeOf_0 0 rfl ?_
  refine xw_getS (b := p) (pc := 1) fd_X1_10 dX1_scopeOf_1 (by first | assumption | (simp [-List.getD_eq_getElem?_getD, xE_setI, xsz_setI, xsl_setI, xtag_setI, xown_setI, xlen_setI, xE_setR, xsz_setR, xsl_setR, xtag_setR, xown_setR, xlen_setR, xE_setW, xsz_setW, xsl_setW, xtag_setW, xown_setW, xlen_setW, xi_setR, xi_setW, xr_setI, xr_setW, xww_setI, xww_setR, xi_setI, xr_setR, xww_setW, xE_new, xsz_new, xsl_new, hM.tx, hM.xp, hM.l3, tk, fk0, tko, fko, xsub]; done) | (simp [-List.getD_eq_getElem?_getD, xE_setI, xsz_setI, xsl_setI, xtag_setI, xown_setI, xlen_setI, xE_setR, xsz_setR, xsl_setR, xtag_setR, xown_setR, xlen_setR, xE_setW, xsz_setW, xsl_setW, xtag_setW, xown_setW, xlen_setW, xi_setR, xi_setW, xr_setI, xr_setW, xww_setI, xww_setR, xi_setI, xr_setR, xww_setW, xE_new, xsz_new, xsl_new, hM.tx, hM.xp, hM.l3, tk, fk0, tko, fko] <;> rfl)) (by simp [-List.getD_eq_getElem?_getD, xE_setI, xsz_setI, xsl_setI, xtag_setI, xown_setI, xlen_setI, xE_setR, xsz_setR, xsl_setR, xtag_setR, xown_setR, xlen_setR, xE_setW, xsz_setW, xsl_setW, xtag_setW, xown_setW, xlen_setW, xi_setR, xi_setW, xr_setI, xr_setW, xww_setI, xww_setR, xi_setI, xr_setR, xww_setW, xE_new, xsz_new, xsl_new, hM.tx, hM.xp, hM.l3, tk, fk0, tko, fko]) ?_
  refine xw_iload_n (pc := 4) dX1_scopeOf_4 1 rfl ?_
  refine xw_callV (pc := 5) (xr_V (as := [_]) ok_X2_scope rfl (by decide) q1056 q1057 q1058 (by rw [hM.P.tag]; rfl) (by rw [hM.P.tag]; rfl) dX1_scopeOf_5 rfl rfl (Nat.le_of_ble_eq_true rfl)) (SP_X2_scope hM.P.pl k (by omega) (hM.P.so' hk)) ?_
  refine xw_astore_n (l' := [(3, _), (0, _), (1, _), (2, _)]) (pc := 8) dX1_scopeOf_8 rfl (by decide) rfl ?_
  refine xw_iload_n (pc := 9) dX1_scopeOf_9 3 rfl ?_
  refine xw_iconst (v := nI 0) (pc := 10) dX1_scopeOf_10 rfl ?_
  refine xw_iconst (v := nI 4) (pc := 11) dX1_scopeOf_11 rfl ?_
  refine xw_callV (pc := 12) (xr_S (as := [_, _, _]) ok_X1_isIn rfl (by decide) q1180 q784 dX1_scopeOf_12 rfl rfl (Nat.le_of_ble_eq_true rfl)) (SP_X1_isInT (by decide)) ?_
  refine xw_callU (pc := 15) (xr_S (as := [_]) ok_X1_check rfl (by decide) q1181 q1182 dX1_scopeOf_15 rfl rfl (Nat.le_of_ble_eq_true rfl)) (SP_X1_check_T) ?_
  refine xw_iload_n (pc := 18) dX1_scopeOf_18 3 rfl ?_
  refine xw_tableIn (x := nI 0) (pc := 19) 48 dX1_scopeOf_19 (by decide) (by decide) rfl rfl ?_
  refine xw_aload_n (pc := 48) dX1_scopeOf_48 0 rfl ?_
  refine xw_getS (b := ((aC Z).getD (ou (S 1) k) 0)) (pc := 49) fd_X1_202 dX1_scopeOf_49 (by first | assumption | (simp [-List.getD_eq_getElem?_getD, xE_setI, xsz_setI, xsl_setI, xtag_setI, xown_setI, xlen_setI, xE_setR, xsz_setR, xsl_setR, xtag_setR, xown_setR, xlen_setR, xE_setW, xsz_setW, xsl_setW, xtag_setW, xown_setW, xlen_setW, xi_setR, xi_setW, xr_setI, xr_setW, xww_setI, xww_setR, xi_setI, xr_setR, xww_setW, xE_new, xsz_new, xsl_new, hM.tx, hM.xp, hM.l3, tk, fk0, tko, fko, xsub]; done) | (simp [-List.getD_eq_getElem?_getD, xE_setI, xsz_setI, xsl_setI, xtag_setI, xown_setI, xlen_setI, xE_setR, xsz_setR, xsl_setR, xtag_setR, xown_setR, xlen_setR, xE_setW, xsz_setW, xsl_setW, xtag_setW, xown_setW, xlen_setW, xi_setR, xi_setW, xr_setI, xr_setW, xww_setI, xww_setR, xi_setI, xr_setR, xww_setW, xE_new, xsz_new, xsl_new, hM.tx, hM.xp, hM.l3, tk, fk0, tko, fko] <;> rfl)) (by simp [-List.getD_eq_getElem?_getD, xE_setI, xsz_setI, xsl_setI, xtag_setI, xown_setI, xlen_setI, xE_setR, xsz_setR, xsl_setR, xtag_setR, xown_setR, xlen_setR, xE_setW, xsz_setW, xsl_setW, xtag_setW, xown_setW, xlen_setW, xi_setR, xi_setW, xr_setI, xr_setW, xww_setI, xww_setR, xi_setI, xr_setR, xww_setW, xE_new, xsz_new, xsl_new, hM.tx, hM.xp, hM.l3, tk, fk0, tko, fko]) ?_
  refine xw_ifnonnull (pc := 52) 59 dX1_scopeOf_52 rfl ?_
  refine xw_aload_n (pc := 59) dX1_scopeOf_59 0 rfl ?_
  refine xw_getS (b := ((aC Z).getD (ou (S 1) k) 0)) (pc := 60) fd_X1_202 dX1_scopeOf_60 (by first | assumption | (simp [-List.getD_eq_getElem?_getD, xE_setI, xsz_setI, xsl_setI, xtag_setI, xown_setI, xlen_setI, xE_setR, xsz_setR, xsl_setR, xtag_setR, xown_setR, xlen_setR, xE_setW, xsz_setW, xsl_setW, xtag_setW, xown_setW, xlen_setW, xi_setR, xi_setW, xr_setI, xr_setW, xww_setI, xww_setR, xi_setI, xr_setR, xww_setW, xE_new, xsz_new, xsl_new, hM.tx, hM.xp, hM.l3, tk, fk0, tko, fko, xsub]; done) | (simp [-List.getD_eq_getElem?_getD, xE_setI, xsz_setI, xsl_setI, xtag_setI, xown_setI, xlen_setI, xE_setR, xsz_setR, xsl_setR, xtag_setR, xown_setR, xlen_setR, xE_setW, xsz_setW, xsl_setW, xtag_setW, xown_setW, xlen_setW, xi_setR, xi_setW, xr_setI, xr_setW, xww_setI, xww_setR, xi_setI, xr_setR, xww_setW, xE_new, xsz_new, xsl_new, hM.tx, hM.xp, hM.l3, tk, fk0, tko, fko] <;> rfl)) (by simp [-List.getD_eq_getElem?_getD, xE_setI, xsz_setI, xsl_setI, xtag_setI, xown_setI, xlen_setI, xE_setR, xsz_setR, xsl_setR, xtag_setR, xown_setR, xlen_setR, xE_setW, xsz_setW, xsl_setW, xtag_setW, xown_setW, xlen_setW, xi_setR, xi_setW, xr_setI, xr_setW, xww_setI, xww_setR, xi_setI, xr_setR, xww_setW, xE_new, xsz_new, xsl_new, hM.tx, hM.xp, hM.l3, tk, fk0, tko, fko]) ?_
  refine xw_getI (pc := 63) fd_X1_206 dX1_scopeOf_63 (by first | assumption | (simp [-List.getD_eq_getElem?_getD, xE_setI, xsz_setI, xsl_setI, xtag_setI, xown_setI, xlen_setI, xE_setR, xsz_setR, xsl_setR, xtag_setR, xown_setR, xlen_setR, xE_setW, xsz_setW, xsl_setW, xtag_setW, xown_setW, xlen_setW, xi_setR, xi_setW, xr_setI, xr_setW, xww_setI, xww_setR, xi_setI, xr_setR, xww_setW, xE_new, xsz_new, xsl_new, hM.tx, hM.xp, hM.l3, tk, fk0, tko, fko, xsub]; done) | (simp [-List.getD_eq_getElem?_getD, xE_setI, xsz_setI, xsl_setI, xtag_setI, xown_setI, xlen_setI, xE_setR, xsz_setR, xsl_setR, xtag_setR, xown_setR, xlen_setR, xE_setW, xsz_setW, xsl_setW, xtag_setW, xown_setW, xlen_setW, xi_setR, xi_setW, xr_setI, xr_setW, xww_setI, xww_setR, xi_setI, xr_setR, xww_setW, xE_new, xsz_new, xsl_new, hM.tx, hM.xp, hM.l3, tk, fk0, tko, fko] <;> rfl)) ?_
  rw [fko]
  refine xw_iret (pc := 66) .int dX1_scopeOf_66 rfl ?_ 
  exact ⟨by rw [(hM.P.wf.o.2 k (by omega) hk).1], rfl⟩

theorem SP_X1_scopeOf1 {d : Nat} {g : xG} {x p lk fa ka la n rr ww : Nat} {Z : xAd} {S : xMS} (hM : xMn g x p lk fa ka la Z S n rr ww) {k : Nat} (hk : k < n) : XM M_X1_scopeOf (d + 80) [.ref x, .int (nI k), .int (nI 1)] g (xOne (some (.int (nI (dep (S 1) k)))) g) := by
  have hlc := hM.P.lc
  have n10 := hM.P.wf.n10
  obtain ⟨sc1, sc2, sc3, sc4⟩ := hM.P.sc k hk
  have tk : xtag g ((aC Z).getD k 0) = 3 := sc1
  have fk0 : xr g ((aC Z).getD k 0) 0 = if k = 0 then none else some ((aC Z).getD (ou (S 1) k) 0) := sc3
  have fk2 : xr g ((aC Z).getD k 0) 2 = effO g (S 1 (4 + 2 * k)) := sc4
  refine xm_of (by decide +kernel) (Nat.le_of_ble_eq_true rfl) ?_
  show XW _ _ 0 [(0, _), (1, _), (2, _)] [] _ _
  refine xw_aload_n (pc := 0) dX1_scopeOf_0 0 rfl ?_
  refine xw_getS (b := p) (pc := 1) fd_X1_10 dX1_scopeOf_1 (by first | assumption | (simp [-List.getD_eq_getElem?_getD, xE_setI, xsz_setI, xsl_setI, xtag_setI, xown_setI, xlen_setI, xE_setR, xsz_setR, xsl_setR, xtag_setR, xown_setR, xlen_setR, xE_setW, xsz_setW, xsl_setW, xtag_setW, xown_setW, xlen_setW, xi_setR, xi_setW, xr_setI, xr_setW, xww_setI, xww_setR, xi_setI, xr_setR, xww_setW, xE_new, xsz_new, xsl_new, hM.tx, hM.xp, hM.l3, tk, xsub]; done) | (simp [-List.getD_eq_getElem?_getD, xE_setI, xsz_setI, xsl_setI, xtag_setI, xown_setI, xlen_setI, xE_setR, xsz_setR, xsl_setR, xtag_setR, xown_setR, xlen_setR, xE_setW, xsz_setW, xsl_setW, xtag_setW, xown_setW, xlen_setW, xi_setR, xi_setW, xr_setI, xr_setW, xww_setI, xww_setR, xi_setI, xr_setR, xww_setW, xE_new, xsz_new, xsl_new, hM.tx, hM.xp, hM.l3, tk] <;> rfl)) (by simp [-List.getD_eq_getElem?_getD, xE_setI, xsz_setI, xsl_setI, xtag_setI, xown_setI, xlen_setI, xE_setR, xsz_setR, xsl_setR, xtag_setR, xown_setR, xlen_setR, xE_setW, xsz_setW, xsl_setW, xtag_setW, xown_setW, xlen_setW, xi_setR, xi_setW, xr_setI, xr_setW, xww_setI, xww_setR, xi_setI, xr_setR, xww_setW, xE_new, xsz_new, xsl_new, hM.tx, hM.xp, hM.l3, tk]) ?_
  refine xw_iload_n (pc := 4) dX1_scopeOf_4 1 rfl ?_
  refine xw_callV (pc := 5) (xr_V (as := [_]) ok_X2_scope rfl (by decide) q1056 q1057 q1058 (by rw [hM.P.tag]; rfl) (by rw [hM.P.tag]; rfl) dX1_scopeOf_5 rfl rfl (Nat.le_of_ble_eq_true rfl)) (SP_X2_scope hM.P.pl k (by omega) (hM.P.so' hk)) ?_
  refine xw_astore_n (l' := [(3, _), (0, _), (1, _), (2, _)]) (pc := 8) dX1_scopeOf_8 rfl (by decide) rfl ?_
  refine xw_iload_n (pc := 9) dX1_scopeOf_9 3 rfl ?_
  refine xw_iconst (v := nI 0) (pc := 10) dX1_scopeOf_10 rfl ?_
  refine xw_iconst (v := nI 4) (pc := 11) dX1_scopeOf_11 rfl ?_
  refine xw_callV (pc := 12) (xr_S (as := [_, _, _]) ok_X1_isIn rfl (by decide) q1180 q784 dX1_scopeOf_12 rfl rfl (Nat.le_of_ble_eq_true rfl)) (SP_X1_isInT (by decide)) ?_
  refine xw_callU (pc := 15) (xr_S (as := [_]) ok_X1_check rfl (by decide) q1181 q1182 dX1_scopeOf_15 rfl rfl (Nat.le_of_ble_eq_true rfl)) (SP_X1_check_T) ?_
  refine xw_iload_n (pc := 18) dX1_scopeOf_18 3 rfl ?_
  refine xw_tableIn (x := nI 1) (pc := 19) 67 dX1_scopeOf_19 (by decide) (by decide) rfl rfl ?_
  refine xw_aload_n (pc := 67) dX1_scopeOf_67 0 rfl ?_
  refine xw_callV (pc := 68) (xr_V (as := []) ok_X3_depth rfl (by decide) q1222 q852 q853 (by rw [tk]; rfl) (by rw [tk]; rfl) dX1_scopeOf_68 rfl rfl (Nat.le_of_ble_eq_true rfl)) (SP_X3_depth hM.P.sc hM.P.wf.o n10 k hk (d + 79) (by omega)) ?_
  refine xw_iret (pc := 71) .int dX1_scopeOf_71 rfl ?_ 
  exact ⟨rfl, rfl⟩

theorem SP_X1_scopeOf2 {d : Nat} {g : xG} {x p lk fa ka la n rr ww : Nat} {Z : xAd} {S : xMS} (hM : xMn g x p lk fa ka la Z S n rr ww) {k : Nat} (hk : k < n) : XM M_X1_scopeOf (d + 80) [.ref x, .int (nI k), .int (nI 2)] g (xOne (some (.int (S 1 (4 + 2 * k)))) g) := by
  have hlc := hM.P.lc
  have n10 := hM.P.wf.n10
  obtain ⟨sc1, sc2, sc3, sc4⟩ := hM.P.sc k hk
  have tk : xtag g ((aC Z).getD k 0) = 3 := sc1
  have fk0 : xr g ((aC Z).getD k 0) 0 = if k = 0 then none else some ((aC Z).getD (ou (S 1) k) 0) := sc3
  have fk2 : xr g ((aC Z).getD k 0) 2 = effO g (S 1 (4 + 2 * k)) := sc4
  refine xm_of (by decide +kernel) (Nat.le_of_ble_eq_true rfl) ?_
  show XW _ _ 0 [(0, _), (1, _), (2, _)] [] _ _
  refine xw_aload_n (pc := 0) dX1_scopeOf_0 0 rfl ?_
  refine xw_getS (b := p) (pc := 1) fd_X1_10 dX1_scopeOf_1 (by first | assumption | (simp [-List.getD_eq_getElem?_getD, xE_setI, xsz_setI, xsl_setI, xtag_setI, xown_setI, xlen_setI, xE_setR, xsz_setR, xsl_setR, xtag_setR, xown_setR, xlen_setR, xE_setW, xsz_setW, xsl_setW, xtag_setW, xown_setW, xlen_setW, xi_setR, xi_setW, xr_setI, xr_setW, xww_setI, xww_setR, xi_setI, xr_setR, xww_setW, xE_new, xsz_new, xsl_new, hM.tx, hM.xp, hM.l3, tk, xsub]; done) | (simp [-List.getD_eq_getElem?_getD, xE_setI, xsz_setI, xsl_setI, xtag_setI, xown_setI, xlen_setI, xE_setR, xsz_setR, xsl_setR, xtag_setR, xown_setR, xlen_setR, xE_setW, xsz_setW, xsl_setW, xtag_setW, xown_setW, xlen_setW, xi_setR, xi_setW, xr_setI, xr_setW, xww_setI, xww_setR, xi_setI, xr_setR, xww_setW, xE_new, xsz_new, xsl_new, hM.tx, hM.xp, hM.l3, tk] <;> rfl)) (by simp [-List.getD_eq_getElem?_getD, xE_setI, xsz_setI, xsl_setI, xtag_setI, xown_setI, xlen_setI, xE_setR, xsz_setR, xsl_setR, xtag_setR, xown_setR, xlen_setR, xE_setW, xsz_setW, xsl_setW, xtag_setW, xown_setW, xlen_setW, xi_setR, xi_setW, xr_setI, xr_setW, xww_setI, xww_setR, xi_setI, xr_setR, xww_setW, xE_new, xsz_new, xsl_new, hM.tx, hM.xp, hM.l3, tk]) ?_
  refine xw_iload_n (pc := 4) dX1_scopeOf_4 1 rfl ?_
  refine xw_callV (pc := 5) (xr_V (as := [_]) ok_X2_scope rfl (by decide) q1056 q1057 q1058 (by rw [hM.P.tag]; rfl) (by rw [hM.P.tag]; rfl) dX1_scopeOf_5 rfl rfl (Nat.le_of_ble_eq_true rfl)) (SP_X2_scope hM.P.pl k (by omega) (hM.P.so' hk)) ?_
  refine xw_astore_n (l' := [(3, _), (0, _), (1, _), (2, _)]) (pc := 8) dX1_scopeOf_8 rfl (by decide) rfl ?_
  refine xw_iload_n (pc := 9) dX1_scopeOf_9 3 rfl ?_
  refine xw_iconst (v := nI 0) (pc := 10) dX1_scopeOf_10 rfl ?_
  refine xw_iconst (v := nI 4) (pc := 11) dX1_scopeOf_11 rfl ?_
  refine xw_callV (pc := 12) (xr_S (as := [_, _, _]) ok_X1_isIn rfl (by decide) q1180 q784 dX1_scopeOf_12 rfl rfl (Nat.le_of_ble_eq_true rfl)) (SP_X1_isInT (by decide)) ?_
  refine xw_callU (pc := 15) (xr_S (as := [_]) ok_X1_check rfl (by decide) q1181 q1182 dX1_scopeOf_15 rfl rfl (Nat.le_of_ble_eq_true rfl)) (SP_X1_check_T) ?_
  refine xw_iload_n (pc := 18) dX1_scopeOf_18 3 rfl ?_
  refine xw_tableIn (x := nI 2) (pc := 19) 72 dX1_scopeOf_19 (by decide) (by decide) rfl rfl ?_
  refine xw_aload_n (pc := 72) dX1_scopeOf_72 0 rfl ?_
  refine xw_getR (pc := 73) fd_X1_191 dX1_scopeOf_73 (by first | assumption | (simp [-List.getD_eq_getElem?_getD, xE_setI, xsz_setI, xsl_setI, xtag_setI, xown_setI, xlen_setI, xE_setR, xsz_setR, xsl_setR, xtag_setR, xown_setR, xlen_setR, xE_setW, xsz_setW, xsl_setW, xtag_setW, xown_setW, xlen_setW, xi_setR, xi_setW, xr_setI, xr_setW, xww_setI, xww_setR, xi_setI, xr_setR, xww_setW, xE_new, xsz_new, xsl_new, hM.tx, hM.xp, hM.l3, tk, xsub]; done) | (simp [-List.getD_eq_getElem?_getD, xE_setI, xsz_setI, xsl_setI, xtag_setI, xown_setI, xlen_setI, xE_setR, xsz_setR, xsl_setR, xtag_setR, xown_setR, xlen_setR, xE_setW, xsz_setW, xsl_setW, xtag_setW, xown_setW, xlen_setW, xi_setR, xi_setW, xr_setI, xr_setW, xww_setI, xww_setR, xi_setI, xr_setR, xww_setW, xE_new, xsz_new, xsl_new, hM.tx, hM.xp, hM.l3, tk] <;> rfl)) ?_
  rw [fk2]
  refine xw_callV (pc := 76) (xr_S (as := [_]) ok_X1_numberOf rfl (by decide) q1189 q1190 dX1_scopeOf_76 rfl rfl (Nat.le_of_ble_eq_true rfl)) (SP_X1_numberOf hM.cn (hM.P.wf.e.2 k hk)) ?_
  refine xw_iret (pc := 79) .int dX1_scopeOf_79 rfl ?_ 
  exact ⟨rfl, rfl⟩

theorem SP_X1_scopeOf3 {d : Nat} {g : xG} {x p lk fa ka la n rr ww : Nat} {Z : xAd} {S : xMS} (hM : xMn g x p lk fa ka la Z S n rr ww) {k : Nat} (hk : k < n) : XM M_X1_scopeOf (d + 80) [.ref x, .int (nI k), .int (nI 3)] g (xOne (some (.int (dfl (S 1) k))) g) := by
  have hlc := hM.P.lc
  have n10 := hM.P.wf.n10
  obtain ⟨sc1, sc2, sc3, sc4⟩ := hM.P.sc k hk
  have tk : xtag g ((aC Z).getD k 0) = 3 := sc1
  have fk0 : xr g ((aC Z).getD k 0) 0 = if k = 0 then none else some ((aC Z).getD (ou (S 1) k) 0) := sc3
  have fk2 : xr g ((aC Z).getD k 0) 2 = effO g (S 1 (4 + 2 * k)) := sc4
  refine xm_of (by decide +kernel) (Nat.le_of_ble_eq_true rfl) ?_
  show XW _ _ 0 [(0, _), (1, _), (2, _)] [] _ _
  refine xw_aload_n (pc := 0) dX1_scopeOf_0 0 rfl ?_
  refine xw_getS (b := p) (pc := 1) fd_X1_10 dX1_scopeOf_1 (by first | assumption | (simp [-List.getD_eq_getElem?_getD, xE_setI, xsz_setI, xsl_setI, xtag_setI, xown_setI, xlen_setI, xE_setR, xsz_setR, xsl_setR, xtag_setR, xown_setR, xlen_setR, xE_setW, xsz_setW, xsl_setW, xtag_setW, xown_setW, xlen_setW, xi_setR, xi_setW, xr_setI, xr_setW, xww_setI, xww_setR, xi_setI, xr_setR, xww_setW, xE_new, xsz_new, xsl_new, hM.tx, hM.xp, hM.l3, tk, xsub]; done) | (simp [-List.getD_eq_getElem?_getD, xE_setI, xsz_setI, xsl_setI, xtag_setI, xown_setI, xlen_setI, xE_setR, xsz_setR, xsl_setR, xtag_setR, xown_setR, xlen_setR, xE_setW, xsz_setW, xsl_setW, xtag_setW, xown_setW, xlen_setW, xi_setR, xi_setW, xr_setI, xr_setW, xww_setI, xww_setR, xi_setI, xr_setR, xww_setW, xE_new, xsz_new, xsl_new, hM.tx, hM.xp, hM.l3, tk] <;> rfl)) (by simp [-List.getD_eq_getElem?_getD, xE_setI, xsz_setI, xsl_setI, xtag_setI, xown_setI, xlen_setI, xE_setR, xsz_setR, xsl_setR, xtag_setR, xown_setR, xlen_setR, xE_setW, xsz_setW, xsl_setW, xtag_setW, xown_setW, xlen_setW, xi_setR, xi_setW, xr_setI, xr_setW, xww_setI, xww_setR, xi_setI, xr_setR, xww_setW, xE_new, xsz_new, xsl_new, hM.tx, hM.xp, hM.l3, tk]) ?_
  refine xw_iload_n (pc := 4) dX1_scopeOf_4 1 rfl ?_
  refine xw_callV (pc := 5) (xr_V (as := [_]) ok_X2_scope rfl (by decide) q1056 q1057 q1058 (by rw [hM.P.tag]; rfl) (by rw [hM.P.tag]; rfl) dX1_scopeOf_5 rfl rfl (Nat.le_of_ble_eq_true rfl)) (SP_X2_scope hM.P.pl k (by omega) (hM.P.so' hk)) ?_
  refine xw_astore_n (l' := [(3, _), (0, _), (1, _), (2, _)]) (pc := 8) dX1_scopeOf_8 rfl (by decide) rfl ?_
  refine xw_iload_n (pc := 9) dX1_scopeOf_9 3 rfl ?_
  refine xw_iconst (v := nI 0) (pc := 10) dX1_scopeOf_10 rfl ?_
  refine xw_iconst (v := nI 4) (pc := 11) dX1_scopeOf_11 rfl ?_
  refine xw_callV (pc := 12) (xr_S (as := [_, _, _]) ok_X1_isIn rfl (by decide) q1180 q784 dX1_scopeOf_12 rfl rfl (Nat.le_of_ble_eq_true rfl)) (SP_X1_isInT (by decide)) ?_
  refine xw_callU (pc := 15) (xr_S (as := [_]) ok_X1_check rfl (by decide) q1181 q1182 dX1_scopeOf_15 rfl rfl (Nat.le_of_ble_eq_true rfl)) (SP_X1_check_T) ?_
  refine xw_iload_n (pc := 18) dX1_scopeOf_18 3 rfl ?_
  refine xw_tableIn (x := nI 3) (pc := 19) 80 dX1_scopeOf_19 (by decide) (by decide) rfl rfl ?_
  refine xw_aload_n (pc := 80) dX1_scopeOf_80 0 rfl ?_
  refine xw_callV (pc := 81) (xr_V (as := []) ok_X3_counts rfl (by decide) q1223 q857 q858 (by rw [tk]; rfl) (by rw [tk]; rfl) dX1_scopeOf_81 rfl rfl (Nat.le_of_ble_eq_true rfl)) (SP_X3_counts hM.P.sc hM.P.wf.o n10 hM.P.wf.e k hk (d + 79) (by omega)) ?_
  refine xw_enum (pc := 84) hM.cn (dfl_e hM.P.wf hk) dX1_scopeOf_84 q1192 (Nat.le_of_ble_eq_true rfl) ?_
  refine xw_iret (pc := 87) .int dX1_scopeOf_87 rfl ?_ 
  exact ⟨rfl, rfl⟩

theorem SP_X1_ruleOf_F2 {d : Nat} {g : xG} {x p lk fa ka la n rr ww : Nat} {Z : xAd} {S : xMS} (hM : xMn g x p lk fa ka la Z S n rr ww) {r : Nat} {e : Int32} (hr : r < rr) (he : ¬ inR e (nI 0) (nI 9) = true) : XM M_X1_ruleOf (d + 80) [.ref x, .int (nI r), .int e] g (xThr (xsz g) (xExc g 22)) := by
  have hlr := hM.P.lr
  have r16 := hM.P.wf.r16
  refine xm_of (by decide +kernel) (Nat.le_of_ble_eq_true rfl) ?_
  show XW _ _ 0 [(0, _), (1, _), (2, _)] [] _ _
  refine xw_aload_n (pc := 0) dX1_ruleOf_0 0 rfl ?_
  refine xw_getS (b := p) (pc := 1) fd_X1_10 dX1_ruleOf_1 (by first | assumption | (simp [-List.getD_eq_getElem?_getD, xE_setI, xsz_setI, xsl_setI, xtag_setI, xown_setI, xlen_setI, xE_setR, xsz_setR, xsl_setR, xtag_setR, xown_setR, xlen_setR, xE_setW, xsz_setW, xsl_setW, xtag_setW, xown_setW, xlen_setW, xi_setR, xi_setW, xr_setI, xr_setW, xww_setI, xww_setR, xi_setI, xr_setR, xww_setW, xE_new, xsz_new, xsl_new, hM.tx, hM.xp, hM.l3, xsub]; done) | (simp [-List.getD_eq_getElem?_getD, xE_setI, xsz_setI, xsl_setI, xtag_setI, xown_setI, xlen_setI, xE_setR, xsz_setR, xsl_setR, xtag_setR, xown_setR, xlen_setR, xE_setW, xsz_setW, xsl_setW, xtag_setW, xown_setW, xlen_setW, xi_setR, xi_setW, xr_setI, xr_setW, xww_setI, xww_setR, xi_setI, xr_setR, xww_setW, xE_new, xsz_new, xsl_new, hM.tx, hM.xp, hM.l3] <;> rfl)) (by simp [-List.getD_eq_getElem?_getD, xE_setI, xsz_setI, xsl_setI, xtag_setI, xown_setI, xlen_setI, xE_setR, xsz_setR, xsl_setR, xtag_setR, xown_setR, xlen_setR, xE_setW, xsz_setW, xsl_setW, xtag_setW, xown_setW, xlen_setW, xi_setR, xi_setW, xr_setI, xr_setW, xww_setI, xww_setR, xi_setI, xr_setR, xww_setW, xE_new, xsz_new, xsl_new, hM.tx, hM.xp, hM.l3]) ?_
  refine xw_iload_n (pc := 4) dX1_ruleOf_4 1 rfl ?_
  refine xw_callV (pc := 5) (xr_V (as := [_]) ok_X2_rule rfl (by decide) q1338 q1339 q1340 (by rw [hM.P.tag]; rfl) (by rw [hM.P.tag]; rfl) dX1_ruleOf_5 rfl rfl (Nat.le_of_ble_eq_true rfl)) (SP_X2_rule hM.P.pl r (by omega) (hM.P.ru hr).1) ?_
  refine xw_astore_n (l' := [(3, _), (0, _), (1, _), (2, _)]) (pc := 8) dX1_ruleOf_8 rfl (by decide) rfl ?_
  refine xw_iload_n (pc := 9) dX1_ruleOf_9 3 rfl ?_
  refine xw_iconst (v := nI 0) (pc := 10) dX1_ruleOf_10 rfl ?_
  refine xw_bipush (v := nI 9) (pc := 11) dX1_ruleOf_11 (by decide +kernel) ?_
  refine xw_callV (pc := 13) (xr_S (as := [_, _, _]) ok_X1_isIn rfl (by decide) q1180 q784 dX1_ruleOf_13 rfl rfl (Nat.le_of_ble_eq_true rfl)) (SP_X1_isInF he) ?_
  refine xw_callX (pc := 16) (xr_S (as := [_]) ok_X1_check rfl (by decide) q1181 q1182 dX1_ruleOf_16 rfl rfl (Nat.le_of_ble_eq_true rfl)) (SP_X1_check_F) ?_
  exact xx_out0 rfl (by rw [xExc_tag]; decide) (by rw [xExc_tag]; decide) (by rw [xExc_own]; decide) ⟨rfl, rfl⟩

theorem SP_X1_ruleOf0 {d : Nat} {g : xG} {x p lk fa ka la n rr ww : Nat} {Z : xAd} {S : xMS} (hM : xMn g x p lk fa ka la Z S n rr ww) {r : Nat} (hr : r < rr) : XM M_X1_ruleOf (d + 80) [.ref x, .int (nI r), .int (nI 0)] g (xOne (some (.int (S 1 (23 + 20 * r + 0)))) g) := by
  have hlr := hM.P.lr
  have r16 := hM.P.wf.r16
  obtain ⟨u1, u2, u3, u4, u5, u6, u7, u8, u9, u10, u11, u12, u13⟩ := hM.P.ru hr
  have wr := hM.P.wf.ru hr
  have sb : xsub 90 (xtag g ((aR Z).getD r 0)) = true := xRu_x (hM.P.ru hr)
  refine xm_of (by decide +kernel) (Nat.le_of_ble_eq_true rfl) ?_
  show XW _ _ 0 [(0, _), (1, _), (2, _)] [] _ _
  refine xw_aload_n (pc := 0) dX1_ruleOf_0 0 rfl ?_
  refine xw_getS (b := p) (pc := 1) fd_X1_10 dX1_ruleOf_1 (by first | assumption | (simp [-List.getD_eq_getElem?_getD, xE_setI, xsz_setI, xsl_setI, xtag_setI, xown_setI, xlen_setI, xE_setR, xsz_setR, xsl_setR, xtag_setR, xown_setR, xlen_setR, xE_setW, xsz_setW, xsl_setW, xtag_setW, xown_setW, xlen_setW, xi_setR, xi_setW, xr_setI, xr_setW, xww_setI, xww_setR, xi_setI, xr_setR, xww_setW, xE_new, xsz_new, xsl_new, hM.tx, hM.xp, hM.l3, sb, u8, xsub]; done) | (simp [-List.getD_eq_getElem?_getD, xE_setI, xsz_setI, xsl_setI, xtag_setI, xown_setI, xlen_setI, xE_setR, xsz_setR, xsl_setR, xtag_setR, xown_setR, xlen_setR, xE_setW, xsz_setW, xsl_setW, xtag_setW, xown_setW, xlen_setW, xi_setR, xi_setW, xr_setI, xr_setW, xww_setI, xww_setR, xi_setI, xr_setR, xww_setW, xE_new, xsz_new, xsl_new, hM.tx, hM.xp, hM.l3, sb, u8] <;> rfl)) (by simp [-List.getD_eq_getElem?_getD, xE_setI, xsz_setI, xsl_setI, xtag_setI, xown_setI, xlen_setI, xE_setR, xsz_setR, xsl_setR, xtag_setR, xown_setR, xlen_setR, xE_setW, xsz_setW, xsl_setW, xtag_setW, xown_setW, xlen_setW, xi_setR, xi_setW, xr_setI, xr_setW, xww_setI, xww_setR, xi_setI, xr_setR, xww_setW, xE_new, xsz_new, xsl_new, hM.tx, hM.xp, hM.l3, sb, u8]) ?_
  refine xw_iload_n (pc := 4) dX1_ruleOf_4 1 rfl ?_
  refine xw_callV (pc := 5) (xr_V (as := [_]) ok_X2_rule rfl (by decide) q1338 q1339 q1340 (by rw [hM.P.tag]; rfl) (by rw [hM.P.tag]; rfl) dX1_ruleOf_5 rfl rfl (Nat.le_of_ble_eq_true rfl)) (SP_X2_rule hM.P.pl r (by omega) (hM.P.ru hr).1) ?_
  refine xw_astore_n (l' := [(3, _), (0, _), (1, _), (2, _)]) (pc := 8) dX1_ruleOf_8 rfl (by decide) rfl ?_
  refine xw_iload_n (pc := 9) dX1_ruleOf_9 3 rfl ?_
  refine xw_iconst (v := nI 0) (pc := 10) dX1_ruleOf_10 rfl ?_
  refine xw_bipush (v := nI 9) (pc := 11) dX1_ruleOf_11 (by decide +kernel) ?_
  refine xw_callV (pc := 13) (xr_S (as := [_, _, _]) ok_X1_isIn rfl (by decide) q1180 q784 dX1_ruleOf_13 rfl rfl (Nat.le_of_ble_eq_true rfl)) (SP_X1_isInT (by decide)) ?_
  refine xw_callU (pc := 16) (xr_S (as := [_]) ok_X1_check rfl (by decide) q1181 q1182 dX1_ruleOf_16 rfl rfl (Nat.le_of_ble_eq_true rfl)) (SP_X1_check_T) ?_
  refine xw_iload_n (pc := 19) dX1_ruleOf_19 3 rfl ?_
  refine xw_tableIn (x := nI 0) (pc := 20) 72 dX1_ruleOf_20 (by decide) (by decide) rfl rfl ?_
  refine xw_aload_n (pc := 72) dX1_ruleOf_72 0 rfl ?_
  refine xw_reffect (pc := 73) u1 dX1_ruleOf_73 q1478 (Nat.le_of_ble_eq_true rfl) ?_
  rw [u13]
  refine xw_callV (pc := 76) (xr_S (as := [_]) ok_X1_numberOf rfl (by decide) q1189 q1190 dX1_ruleOf_76 rfl rfl (Nat.le_of_ble_eq_true rfl)) (SP_X1_numberOf hM.cn (ru_eff hM.P.wf hr)) ?_
  refine xw_iret (pc := 79) .int dX1_ruleOf_79 rfl ?_ 
  exact ⟨rfl, rfl⟩

theorem SP_X1_ruleOf1 {d : Nat} {g : xG} {x p lk fa ka la n rr ww : Nat} {Z : xAd} {S : xMS} (hM : xMn g x p lk fa ka la Z S n rr ww) {r : Nat} (hr : r < rr) : XM M_X1_ruleOf (d + 80) [.ref x, .int (nI r), .int (nI 1)] g (xOne (some (.int (S 1 (23 + 20 * r + 1)))) g) := by
  have hlr := hM.P.lr
  have r16 := hM.P.wf.r16
  obtain ⟨u1, u2, u3, u4, u5, u6, u7, u8, u9, u10, u11, u12, u13⟩ := hM.P.ru hr
  have wr := hM.P.wf.ru hr
  have sb : xsub 90 (xtag g ((aR Z).getD r 0)) = true := xRu_x (hM.P.ru hr)
  refine xm_of (by decide +kernel) (Nat.le_of_ble_eq_true rfl) ?_
  show XW _ _ 0 [(0, _), (1, _), (2, _)] [] _ _
  refine xw_aload_n (pc := 0) dX1_ruleOf_0 0 rfl ?_
  refine xw_getS (b := p) (pc := 1) fd_X1_10 dX1_ruleOf_1 (by first | assumption | (simp [-List.getD_eq_getElem?_getD, xE_setI, xsz_setI, xsl_setI, xtag_setI, xown_setI, xlen_setI, xE_setR, xsz_setR, xsl_setR, xtag_setR, xown_setR, xlen_setR, xE_setW, xsz_setW, xsl_setW, xtag_setW, xown_setW, xlen_setW, xi_setR, xi_setW, xr_setI, xr_setW, xww_setI, xww_setR, xi_setI, xr_setR, xww_setW, xE_new, xsz_new, xsl_new, hM.tx, hM.xp, hM.l3, sb, u8, xsub]; done) | (simp [-List.getD_eq_getElem?_getD, xE_setI, xsz_setI, xsl_setI, xtag_setI, xown_setI, xlen_setI, xE_setR, xsz_setR, xsl_setR, xtag_setR, xown_setR, xlen_setR, xE_setW, xsz_setW, xsl_setW, xtag_setW, xown_setW, xlen_setW, xi_setR, xi_setW, xr_setI, xr_setW, xww_setI, xww_setR, xi_setI, xr_setR, xww_setW, xE_new, xsz_new, xsl_new, hM.tx, hM.xp, hM.l3, sb, u8] <;> rfl)) (by simp [-List.getD_eq_getElem?_getD, xE_setI, xsz_setI, xsl_setI, xtag_setI, xown_setI, xlen_setI, xE_setR, xsz_setR, xsl_setR, xtag_setR, xown_setR, xlen_setR, xE_setW, xsz_setW, xsl_setW, xtag_setW, xown_setW, xlen_setW, xi_setR, xi_setW, xr_setI, xr_setW, xww_setI, xww_setR, xi_setI, xr_setR, xww_setW, xE_new, xsz_new, xsl_new, hM.tx, hM.xp, hM.l3, sb, u8]) ?_
  refine xw_iload_n (pc := 4) dX1_ruleOf_4 1 rfl ?_
  refine xw_callV (pc := 5) (xr_V (as := [_]) ok_X2_rule rfl (by decide) q1338 q1339 q1340 (by rw [hM.P.tag]; rfl) (by rw [hM.P.tag]; rfl) dX1_ruleOf_5 rfl rfl (Nat.le_of_ble_eq_true rfl)) (SP_X2_rule hM.P.pl r (by omega) (hM.P.ru hr).1) ?_
  refine xw_astore_n (l' := [(3, _), (0, _), (1, _), (2, _)]) (pc := 8) dX1_ruleOf_8 rfl (by decide) rfl ?_
  refine xw_iload_n (pc := 9) dX1_ruleOf_9 3 rfl ?_
  refine xw_iconst (v := nI 0) (pc := 10) dX1_ruleOf_10 rfl ?_
  refine xw_bipush (v := nI 9) (pc := 11) dX1_ruleOf_11 (by decide +kernel) ?_
  refine xw_callV (pc := 13) (xr_S (as := [_, _, _]) ok_X1_isIn rfl (by decide) q1180 q784 dX1_ruleOf_13 rfl rfl (Nat.le_of_ble_eq_true rfl)) (SP_X1_isInT (by decide)) ?_
  refine xw_callU (pc := 16) (xr_S (as := [_]) ok_X1_check rfl (by decide) q1181 q1182 dX1_ruleOf_16 rfl rfl (Nat.le_of_ble_eq_true rfl)) (SP_X1_check_T) ?_
  refine xw_iload_n (pc := 19) dX1_ruleOf_19 3 rfl ?_
  refine xw_tableIn (x := nI 1) (pc := 20) 80 dX1_ruleOf_20 (by decide) (by decide) rfl rfl ?_
  refine xw_aload_n (pc := 80) dX1_ruleOf_80 0 rfl ?_
  refine xw_getI (pc := 81) fd_X1_297 dX1_ruleOf_81 (by first | assumption | (simp [-List.getD_eq_getElem?_getD, xE_setI, xsz_setI, xsl_setI, xtag_setI, xown_setI, xlen_setI, xE_setR, xsz_setR, xsl_setR, xtag_setR, xown_setR, xlen_setR, xE_setW, xsz_setW, xsl_setW, xtag_setW, xown_setW, xlen_setW, xi_setR, xi_setW, xr_setI, xr_setW, xww_setI, xww_setR, xi_setI, xr_setR, xww_setW, xE_new, xsz_new, xsl_new, hM.tx, hM.xp, hM.l3, sb, u8, xsub]; done) | (simp [-List.getD_eq_getElem?_getD, xE_setI, xsz_setI, xsl_setI, xtag_setI, xown_setI, xlen_setI, xE_setR, xsz_setR, xsl_setR, xtag_setR, xown_setR, xlen_setR, xE_setW, xsz_setW, xsl_setW, xtag_setW, xown_setW, xlen_setW, xi_setR, xi_setW, xr_setI, xr_setW, xww_setI, xww_setR, xi_setI, xr_setR, xww_setW, xE_new, xsz_new, xsl_new, hM.tx, hM.xp, hM.l3, sb, u8] <;> rfl)) ?_
  rw [u3]
  refine xw_iret (pc := 84) .int dX1_ruleOf_84 rfl ?_ 
  exact ⟨rfl, rfl⟩

theorem SP_X1_ruleOf2 {d : Nat} {g : xG} {x p lk fa ka la n rr ww : Nat} {Z : xAd} {S : xMS} (hM : xMn g x p lk fa ka la Z S n rr ww) {r : Nat} (hr : r < rr) : XM M_X1_ruleOf (d + 80) [.ref x, .int (nI r), .int (nI 2)] g (xOne (some (.int (S 1 (23 + 20 * r + 2)))) g) := by
  have hlr := hM.P.lr
  have r16 := hM.P.wf.r16
  obtain ⟨u1, u2, u3, u4, u5, u6, u7, u8, u9, u10, u11, u12, u13⟩ := hM.P.ru hr
  have wr := hM.P.wf.ru hr
  have sb : xsub 90 (xtag g ((aR Z).getD r 0)) = true := xRu_x (hM.P.ru hr)
  refine xm_of (by decide +kernel) (Nat.le_of_ble_eq_true rfl) ?_
  show XW _ _ 0 [(0, _), (1, _), (2, _)] [] _ _
  refine xw_aload_n (pc := 0) dX1_ruleOf_0 0 rfl ?_
  refine xw_getS (b := p) (pc := 1) fd_X1_10 dX1_ruleOf_1 (by first | assumption | (simp [-List.getD_eq_getElem?_getD, xE_setI, xsz_setI, xsl_setI, xtag_setI, xown_setI, xlen_setI, xE_setR, xsz_setR, xsl_setR, xtag_setR, xown_setR, xlen_setR, xE_setW, xsz_setW, xsl_setW, xtag_setW, xown_setW, xlen_setW, xi_setR, xi_setW, xr_setI, xr_setW, xww_setI, xww_setR, xi_setI, xr_setR, xww_setW, xE_new, xsz_new, xsl_new, hM.tx, hM.xp, hM.l3, sb, u8, xsub]; done) | (simp [-List.getD_eq_getElem?_getD, xE_setI, xsz_setI, xsl_setI, xtag_setI, xown_setI, xlen_setI, xE_setR, xsz_setR, xsl_setR, xtag_setR, xown_setR, xlen_setR, xE_setW, xsz_setW, xsl_setW, xtag_setW, xown_setW, xlen_setW, xi_setR, xi_setW, xr_setI, xr_setW, xww_setI, xww_setR, xi_setI, xr_setR, xww_setW, xE_new, xsz_new, xsl_new, hM.tx, hM.xp, hM.l3, sb, u8] <;> rfl)) (by simp [-List.getD_eq_getElem?_getD, xE_setI, xsz_setI, xsl_setI, xtag_setI, xown_setI, xlen_setI, xE_setR, xsz_setR, xsl_setR, xtag_setR, xown_setR, xlen_setR, xE_setW, xsz_setW, xsl_setW, xtag_setW, xown_setW, xlen_setW, xi_setR, xi_setW, xr_setI, xr_setW, xww_setI, xww_setR, xi_setI, xr_setR, xww_setW, xE_new, xsz_new, xsl_new, hM.tx, hM.xp, hM.l3, sb, u8]) ?_
  refine xw_iload_n (pc := 4) dX1_ruleOf_4 1 rfl ?_
  refine xw_callV (pc := 5) (xr_V (as := [_]) ok_X2_rule rfl (by decide) q1338 q1339 q1340 (by rw [hM.P.tag]; rfl) (by rw [hM.P.tag]; rfl) dX1_ruleOf_5 rfl rfl (Nat.le_of_ble_eq_true rfl)) (SP_X2_rule hM.P.pl r (by omega) (hM.P.ru hr).1) ?_
  refine xw_astore_n (l' := [(3, _), (0, _), (1, _), (2, _)]) (pc := 8) dX1_ruleOf_8 rfl (by decide) rfl ?_
  refine xw_iload_n (pc := 9) dX1_ruleOf_9 3 rfl ?_
  refine xw_iconst (v := nI 0) (pc := 10) dX1_ruleOf_10 rfl ?_
  refine xw_bipush (v := nI 9) (pc := 11) dX1_ruleOf_11 (by decide +kernel) ?_
  refine xw_callV (pc := 13) (xr_S (as := [_, _, _]) ok_X1_isIn rfl (by decide) q1180 q784 dX1_ruleOf_13 rfl rfl (Nat.le_of_ble_eq_true rfl)) (SP_X1_isInT (by decide)) ?_
  refine xw_callU (pc := 16) (xr_S (as := [_]) ok_X1_check rfl (by decide) q1181 q1182 dX1_ruleOf_16 rfl rfl (Nat.le_of_ble_eq_true rfl)) (SP_X1_check_T) ?_
  refine xw_iload_n (pc := 19) dX1_ruleOf_19 3 rfl ?_
  refine xw_tableIn (x := nI 2) (pc := 20) 85 dX1_ruleOf_20 (by decide) (by decide) rfl rfl ?_
  refine xw_aload_n (pc := 85) dX1_ruleOf_85 0 rfl ?_
  refine xw_getI (pc := 86) fd_X1_299 dX1_ruleOf_86 (by first | assumption | (simp [-List.getD_eq_getElem?_getD, xE_setI, xsz_setI, xsl_setI, xtag_setI, xown_setI, xlen_setI, xE_setR, xsz_setR, xsl_setR, xtag_setR, xown_setR, xlen_setR, xE_setW, xsz_setW, xsl_setW, xtag_setW, xown_setW, xlen_setW, xi_setR, xi_setW, xr_setI, xr_setW, xww_setI, xww_setR, xi_setI, xr_setR, xww_setW, xE_new, xsz_new, xsl_new, hM.tx, hM.xp, hM.l3, sb, u8, xsub]; done) | (simp [-List.getD_eq_getElem?_getD, xE_setI, xsz_setI, xsl_setI, xtag_setI, xown_setI, xlen_setI, xE_setR, xsz_setR, xsl_setR, xtag_setR, xown_setR, xlen_setR, xE_setW, xsz_setW, xsl_setW, xtag_setW, xown_setW, xlen_setW, xi_setR, xi_setW, xr_setI, xr_setW, xww_setI, xww_setR, xi_setI, xr_setR, xww_setW, xE_new, xsz_new, xsl_new, hM.tx, hM.xp, hM.l3, sb, u8] <;> rfl)) ?_
  rw [u4]
  refine xw_iret (pc := 89) .int dX1_ruleOf_89 rfl ?_ 
  exact ⟨rfl, rfl⟩

theorem SP_X1_ruleOf3 {d : Nat} {g : xG} {x p lk fa ka la n rr ww : Nat} {Z : xAd} {S : xMS} (hM : xMn g x p lk fa ka la Z S n rr ww) {r : Nat} (hr : r < rr) : XM M_X1_ruleOf (d + 80) [.ref x, .int (nI r), .int (nI 3)] g (xOne (some (.int (S 1 (23 + 20 * r + 3)))) g) := by
  have hlr := hM.P.lr
  have r16 := hM.P.wf.r16
  obtain ⟨u1, u2, u3, u4, u5, u6, u7, u8, u9, u10, u11, u12, u13⟩ := hM.P.ru hr
  have wr := hM.P.wf.ru hr
  have sb : xsub 90 (xtag g ((aR Z).getD r 0)) = true := xRu_x (hM.P.ru hr)
  refine xm_of (by decide +kernel) (Nat.le_of_ble_eq_true rfl) ?_
  show XW _ _ 0 [(0, _), (1, _), (2, _)] [] _ _
  refine xw_aload_n (pc := 0) dX1_ruleOf_0 0 rfl ?_
  refine xw_getS (b := p) (pc := 1) fd_X1_10 dX1_ruleOf_1 (by first | assumption | (simp [-List.getD_eq_getElem?_getD, xE_setI, xsz_setI, xsl_setI, xtag_setI, xown_setI, xlen_setI, xE_setR, xsz_setR, xsl_setR, xtag_setR, xown_setR, xlen_setR, xE_setW, xsz_setW, xsl_setW, xtag_setW, xown_setW, xlen_setW, xi_setR, xi_setW, xr_setI, xr_setW, xww_setI, xww_setR, xi_setI, xr_setR, xww_setW, xE_new, xsz_new, xsl_new, hM.tx, hM.xp, hM.l3, sb, u8, xsub]; done) | (simp [-List.getD_eq_getElem?_getD, xE_setI, xsz_setI, xsl_setI, xtag_setI, xown_setI, xlen_setI, xE_setR, xsz_setR, xsl_setR, xtag_setR, xown_setR, xlen_setR, xE_setW, xsz_setW, xsl_setW, xtag_setW, xown_setW, xlen_setW, xi_setR, xi_setW, xr_setI, xr_setW, xww_setI, xww_setR, xi_setI, xr_setR, xww_setW, xE_new, xsz_new, xsl_new, hM.tx, hM.xp, hM.l3, sb, u8] <;> rfl)) (by simp [-List.getD_eq_getElem?_getD, xE_setI, xsz_setI, xsl_setI, xtag_setI, xown_setI, xlen_setI, xE_setR, xsz_setR, xsl_setR, xtag_setR, xown_setR, xlen_setR, xE_setW, xsz_setW, xsl_setW, xtag_setW, xown_setW, xlen_setW, xi_setR, xi_setW, xr_setI, xr_setW, xww_setI, xww_setR, xi_setI, xr_setR, xww_setW, xE_new, xsz_new, xsl_new, hM.tx, hM.xp, hM.l3, sb, u8]) ?_
  refine xw_iload_n (pc := 4) dX1_ruleOf_4 1 rfl ?_
  refine xw_callV (pc := 5) (xr_V (as := [_]) ok_X2_rule rfl (by decide) q1338 q1339 q1340 (by rw [hM.P.tag]; rfl) (by rw [hM.P.tag]; rfl) dX1_ruleOf_5 rfl rfl (Nat.le_of_ble_eq_true rfl)) (SP_X2_rule hM.P.pl r (by omega) (hM.P.ru hr).1) ?_
  refine xw_astore_n (l' := [(3, _), (0, _), (1, _), (2, _)]) (pc := 8) dX1_ruleOf_8 rfl (by decide) rfl ?_
  refine xw_iload_n (pc := 9) dX1_ruleOf_9 3 rfl ?_
  refine xw_iconst (v := nI 0) (pc := 10) dX1_ruleOf_10 rfl ?_
  refine xw_bipush (v := nI 9) (pc := 11) dX1_ruleOf_11 (by decide +kernel) ?_
  refine xw_callV (pc := 13) (xr_S (as := [_, _, _]) ok_X1_isIn rfl (by decide) q1180 q784 dX1_ruleOf_13 rfl rfl (Nat.le_of_ble_eq_true rfl)) (SP_X1_isInT (by decide)) ?_
  refine xw_callU (pc := 16) (xr_S (as := [_]) ok_X1_check rfl (by decide) q1181 q1182 dX1_ruleOf_16 rfl rfl (Nat.le_of_ble_eq_true rfl)) (SP_X1_check_T) ?_
  refine xw_iload_n (pc := 19) dX1_ruleOf_19 3 rfl ?_
  refine xw_tableIn (x := nI 3) (pc := 20) 90 dX1_ruleOf_20 (by decide) (by decide) rfl rfl ?_
  refine xw_aload_n (pc := 90) dX1_ruleOf_90 0 rfl ?_
  refine xw_getI (pc := 91) fd_X1_289 dX1_ruleOf_91 (by first | assumption | (simp [-List.getD_eq_getElem?_getD, xE_setI, xsz_setI, xsl_setI, xtag_setI, xown_setI, xlen_setI, xE_setR, xsz_setR, xsl_setR, xtag_setR, xown_setR, xlen_setR, xE_setW, xsz_setW, xsl_setW, xtag_setW, xown_setW, xlen_setW, xi_setR, xi_setW, xr_setI, xr_setW, xww_setI, xww_setR, xi_setI, xr_setR, xww_setW, xE_new, xsz_new, xsl_new, hM.tx, hM.xp, hM.l3, sb, u8, xsub]; done) | (simp [-List.getD_eq_getElem?_getD, xE_setI, xsz_setI, xsl_setI, xtag_setI, xown_setI, xlen_setI, xE_setR, xsz_setR, xsl_setR, xtag_setR, xown_setR, xlen_setR, xE_setW, xsz_setW, xsl_setW, xtag_setW, xown_setW, xlen_setW, xi_setR, xi_setW, xr_setI, xr_setW, xww_setI, xww_setR, xi_setI, xr_setR, xww_setW, xE_new, xsz_new, xsl_new, hM.tx, hM.xp, hM.l3, sb, u8] <;> rfl)) ?_
  rw [u5]
  refine xw_iret (pc := 94) .int dX1_ruleOf_94 rfl ?_ 
  exact ⟨rfl, rfl⟩

theorem SP_X1_ruleOf4 {d : Nat} {g : xG} {x p lk fa ka la n rr ww : Nat} {Z : xAd} {S : xMS} (hM : xMn g x p lk fa ka la Z S n rr ww) {r : Nat} (hr : r < rr) : XM M_X1_ruleOf (d + 80) [.ref x, .int (nI r), .int (nI 4)] g (xOne (some (.int (S 1 (23 + 20 * r + 4)))) g) := by
  have hlr := hM.P.lr
  have r16 := hM.P.wf.r16
  obtain ⟨u1, u2, u3, u4, u5, u6, u7, u8, u9, u10, u11, u12, u13⟩ := hM.P.ru hr
  have wr := hM.P.wf.ru hr
  have sb : xsub 90 (xtag g ((aR Z).getD r 0)) = true := xRu_x (hM.P.ru hr)
  refine xm_of (by decide +kernel) (Nat.le_of_ble_eq_true rfl) ?_
  show XW _ _ 0 [(0, _), (1, _), (2, _)] [] _ _
  refine xw_aload_n (pc := 0) dX1_ruleOf_0 0 rfl ?_
  refine xw_getS (b := p) (pc := 1) fd_X1_10 dX1_ruleOf_1 (by first | assumption | (simp [-List.getD_eq_getElem?_getD, xE_setI, xsz_setI, xsl_setI, xtag_setI, xown_setI, xlen_setI, xE_setR, xsz_setR, xsl_setR, xtag_setR, xown_setR, xlen_setR, xE_setW, xsz_setW, xsl_setW, xtag_setW, xown_setW, xlen_setW, xi_setR, xi_setW, xr_setI, xr_setW, xww_setI, xww_setR, xi_setI, xr_setR, xww_setW, xE_new, xsz_new, xsl_new, hM.tx, hM.xp, hM.l3, sb, u8, xsub]; done) | (simp [-List.getD_eq_getElem?_getD, xE_setI, xsz_setI, xsl_setI, xtag_setI, xown_setI, xlen_setI, xE_setR, xsz_setR, xsl_setR, xtag_setR, xown_setR, xlen_setR, xE_setW, xsz_setW, xsl_setW, xtag_setW, xown_setW, xlen_setW, xi_setR, xi_setW, xr_setI, xr_setW, xww_setI, xww_setR, xi_setI, xr_setR, xww_setW, xE_new, xsz_new, xsl_new, hM.tx, hM.xp, hM.l3, sb, u8] <;> rfl)) (by simp [-List.getD_eq_getElem?_getD, xE_setI, xsz_setI, xsl_setI, xtag_setI, xown_setI, xlen_setI, xE_setR, xsz_setR, xsl_setR, xtag_setR, xown_setR, xlen_setR, xE_setW, xsz_setW, xsl_setW, xtag_setW, xown_setW, xlen_setW, xi_setR, xi_setW, xr_setI, xr_setW, xww_setI, xww_setR, xi_setI, xr_setR, xww_setW, xE_new, xsz_new, xsl_new, hM.tx, hM.xp, hM.l3, sb, u8]) ?_
  refine xw_iload_n (pc := 4) dX1_ruleOf_4 1 rfl ?_
  refine xw_callV (pc := 5) (xr_V (as := [_]) ok_X2_rule rfl (by decide) q1338 q1339 q1340 (by rw [hM.P.tag]; rfl) (by rw [hM.P.tag]; rfl) dX1_ruleOf_5 rfl rfl (Nat.le_of_ble_eq_true rfl)) (SP_X2_rule hM.P.pl r (by omega) (hM.P.ru hr).1) ?_
  refine xw_astore_n (l' := [(3, _), (0, _), (1, _), (2, _)]) (pc := 8) dX1_ruleOf_8 rfl (by decide) rfl ?_
  refine xw_iload_n (pc := 9) dX1_ruleOf_9 3 rfl ?_
  refine xw_iconst (v := nI 0) (pc := 10) dX1_ruleOf_10 rfl ?_
  refine xw_bipush (v := nI 9) (pc := 11) dX1_ruleOf_11 (by decide +kernel) ?_
  refine xw_callV (pc := 13) (xr_S (as := [_, _, _]) ok_X1_isIn rfl (by decide) q1180 q784 dX1_ruleOf_13 rfl rfl (Nat.le_of_ble_eq_true rfl)) (SP_X1_isInT (by decide)) ?_
  refine xw_callU (pc := 16) (xr_S (as := [_]) ok_X1_check rfl (by decide) q1181 q1182 dX1_ruleOf_16 rfl rfl (Nat.le_of_ble_eq_true rfl)) (SP_X1_check_T) ?_
  refine xw_iload_n (pc := 19) dX1_ruleOf_19 3 rfl ?_
  refine xw_tableIn (x := nI 4) (pc := 20) 95 dX1_ruleOf_20 (by decide) (by decide) rfl rfl ?_
  refine xw_aload_n (pc := 95) dX1_ruleOf_95 0 rfl ?_
  refine xw_getI (pc := 96) fd_X1_291 dX1_ruleOf_96 (by first | assumption | (simp [-List.getD_eq_getElem?_getD, xE_setI, xsz_setI, xsl_setI, xtag_setI, xown_setI, xlen_setI, xE_setR, xsz_setR, xsl_setR, xtag_setR, xown_setR, xlen_setR, xE_setW, xsz_setW, xsl_setW, xtag_setW, xown_setW, xlen_setW, xi_setR, xi_setW, xr_setI, xr_setW, xww_setI, xww_setR, xi_setI, xr_setR, xww_setW, xE_new, xsz_new, xsl_new, hM.tx, hM.xp, hM.l3, sb, u8, xsub]; done) | (simp [-List.getD_eq_getElem?_getD, xE_setI, xsz_setI, xsl_setI, xtag_setI, xown_setI, xlen_setI, xE_setR, xsz_setR, xsl_setR, xtag_setR, xown_setR, xlen_setR, xE_setW, xsz_setW, xsl_setW, xtag_setW, xown_setW, xlen_setW, xi_setR, xi_setW, xr_setI, xr_setW, xww_setI, xww_setR, xi_setI, xr_setR, xww_setW, xE_new, xsz_new, xsl_new, hM.tx, hM.xp, hM.l3, sb, u8] <;> rfl)) ?_
  rw [u6]
  refine xw_iret (pc := 99) .int dX1_ruleOf_99 rfl ?_ 
  exact ⟨rfl, rfl⟩

theorem SP_X1_ruleOf5 {d : Nat} {g : xG} {x p lk fa ka la n rr ww : Nat} {Z : xAd} {S : xMS} (hM : xMn g x p lk fa ka la Z S n rr ww) {r : Nat} (hr : r < rr) : XM M_X1_ruleOf (d + 80) [.ref x, .int (nI r), .int (nI 5)] g (xOne (some (.int (S 1 (23 + 20 * r + 5)))) g) := by
  have hlr := hM.P.lr
  have r16 := hM.P.wf.r16
  obtain ⟨u1, u2, u3, u4, u5, u6, u7, u8, u9, u10, u11, u12, u13⟩ := hM.P.ru hr
  have wr := hM.P.wf.ru hr
  have sb : xsub 90 (xtag g ((aR Z).getD r 0)) = true := xRu_x (hM.P.ru hr)
  refine xm_of (by decide +kernel) (Nat.le_of_ble_eq_true rfl) ?_
  show XW _ _ 0 [(0, _), (1, _), (2, _)] [] _ _
  refine xw_aload_n (pc := 0) dX1_ruleOf_0 0 rfl ?_
  refine xw_getS (b := p) (pc := 1) fd_X1_10 dX1_ruleOf_1 (by first | assumption | (simp [-List.getD_eq_getElem?_getD, xE_setI, xsz_setI, xsl_setI, xtag_setI, xown_setI, xlen_setI, xE_setR, xsz_setR, xsl_setR, xtag_setR, xown_setR, xlen_setR, xE_setW, xsz_setW, xsl_setW, xtag_setW, xown_setW, xlen_setW, xi_setR, xi_setW, xr_setI, xr_setW, xww_setI, xww_setR, xi_setI, xr_setR, xww_setW, xE_new, xsz_new, xsl_new, hM.tx, hM.xp, hM.l3, sb, u8, xsub]; done) | (simp [-List.getD_eq_getElem?_getD, xE_setI, xsz_setI, xsl_setI, xtag_setI, xown_setI, xlen_setI, xE_setR, xsz_setR, xsl_setR, xtag_setR, xown_setR, xlen_setR, xE_setW, xsz_setW, xsl_setW, xtag_setW, xown_setW, xlen_setW, xi_setR, xi_setW, xr_setI, xr_setW, xww_setI, xww_setR, xi_setI, xr_setR, xww_setW, xE_new, xsz_new, xsl_new, hM.tx, hM.xp, hM.l3, sb, u8] <;> rfl)) (by simp [-List.getD_eq_getElem?_getD, xE_setI, xsz_setI, xsl_setI, xtag_setI, xown_setI, xlen_setI, xE_setR, xsz_setR, xsl_setR, xtag_setR, xown_setR, xlen_setR, xE_setW, xsz_setW, xsl_setW, xtag_setW, xown_setW, xlen_setW, xi_setR, xi_setW, xr_setI, xr_setW, xww_setI, xww_setR, xi_setI, xr_setR, xww_setW, xE_new, xsz_new, xsl_new, hM.tx, hM.xp, hM.l3, sb, u8]) ?_
  refine xw_iload_n (pc := 4) dX1_ruleOf_4 1 rfl ?_
  refine xw_callV (pc := 5) (xr_V (as := [_]) ok_X2_rule rfl (by decide) q1338 q1339 q1340 (by rw [hM.P.tag]; rfl) (by rw [hM.P.tag]; rfl) dX1_ruleOf_5 rfl rfl (Nat.le_of_ble_eq_true rfl)) (SP_X2_rule hM.P.pl r (by omega) (hM.P.ru hr).1) ?_
  refine xw_astore_n (l' := [(3, _), (0, _), (1, _), (2, _)]) (pc := 8) dX1_ruleOf_8 rfl (by decide) rfl ?_
  refine xw_iload_n (pc := 9) dX1_ruleOf_9 3 rfl ?_
  refine xw_iconst (v := nI 0) (pc := 10) dX1_ruleOf_10 rfl ?_
  refine xw_bipush (v := nI 9) (pc := 11) dX1_ruleOf_11 (by decide +kernel) ?_
  refine xw_callV (pc := 13) (xr_S (as := [_, _, _]) ok_X1_isIn rfl (by decide) q1180 q784 dX1_ruleOf_13 rfl rfl (Nat.le_of_ble_eq_true rfl)) (SP_X1_isInT (by decide)) ?_
  refine xw_callU (pc := 16) (xr_S (as := [_]) ok_X1_check rfl (by decide) q1181 q1182 dX1_ruleOf_16 rfl rfl (Nat.le_of_ble_eq_true rfl)) (SP_X1_check_T) ?_
  refine xw_iload_n (pc := 19) dX1_ruleOf_19 3 rfl ?_
  refine xw_tableIn (x := nI 5) (pc := 20) 100 dX1_ruleOf_20 (by decide) (by decide) rfl rfl ?_
  refine xw_aload_n (pc := 100) dX1_ruleOf_100 0 rfl ?_
  refine xw_rof (pc := 101) u1 dX1_ruleOf_101 q1479 (Nat.le_of_ble_eq_true rfl) ?_
  rw [u11]
  refine xw_iret (pc := 104) .int dX1_ruleOf_104 rfl ?_ 
  exact ⟨rfl, rfl⟩

theorem SP_X1_ruleOf6 {d : Nat} {g : xG} {x p lk fa ka la n rr ww : Nat} {Z : xAd} {S : xMS} (hM : xMn g x p lk fa ka la Z S n rr ww) {r : Nat} (hr : r < rr) : XM M_X1_ruleOf (d + 80) [.ref x, .int (nI r), .int (nI 6)] g (xOne (some (.int (nI (rdep (S 1) r)))) g) := by
  have hlr := hM.P.lr
  have r16 := hM.P.wf.r16
  obtain ⟨u1, u2, u3, u4, u5, u6, u7, u8, u9, u10, u11, u12, u13⟩ := hM.P.ru hr
  have wr := hM.P.wf.ru hr
  have sb : xsub 90 (xtag g ((aR Z).getD r 0)) = true := xRu_x (hM.P.ru hr)
  refine xm_of (by decide +kernel) (Nat.le_of_ble_eq_true rfl) ?_
  show XW _ _ 0 [(0, _), (1, _), (2, _)] [] _ _
  refine xw_aload_n (pc := 0) dX1_ruleOf_0 0 rfl ?_
  refine xw_getS (b := p) (pc := 1) fd_X1_10 dX1_ruleOf_1 (by first | assumption | (simp [-List.getD_eq_getElem?_getD, xE_setI, xsz_setI, xsl_setI, xtag_setI, xown_setI, xlen_setI, xE_setR, xsz_setR, xsl_setR, xtag_setR, xown_setR, xlen_setR, xE_setW, xsz_setW, xsl_setW, xtag_setW, xown_setW, xlen_setW, xi_setR, xi_setW, xr_setI, xr_setW, xww_setI, xww_setR, xi_setI, xr_setR, xww_setW, xE_new, xsz_new, xsl_new, hM.tx, hM.xp, hM.l3, sb, u8, xsub]; done) | (simp [-List.getD_eq_getElem?_getD, xE_setI, xsz_setI, xsl_setI, xtag_setI, xown_setI, xlen_setI, xE_setR, xsz_setR, xsl_setR, xtag_setR, xown_setR, xlen_setR, xE_setW, xsz_setW, xsl_setW, xtag_setW, xown_setW, xlen_setW, xi_setR, xi_setW, xr_setI, xr_setW, xww_setI, xww_setR, xi_setI, xr_setR, xww_setW, xE_new, xsz_new, xsl_new, hM.tx, hM.xp, hM.l3, sb, u8] <;> rfl)) (by simp [-List.getD_eq_getElem?_getD, xE_setI, xsz_setI, xsl_setI, xtag_setI, xown_setI, xlen_setI, xE_setR, xsz_setR, xsl_setR, xtag_setR, xown_setR, xlen_setR, xE_setW, xsz_setW, xsl_setW, xtag_setW, xown_setW, xlen_setW, xi_setR, xi_setW, xr_setI, xr_setW, xww_setI, xww_setR, xi_setI, xr_setR, xww_setW, xE_new, xsz_new, xsl_new, hM.tx, hM.xp, hM.l3, sb, u8]) ?_
  refine xw_iload_n (pc := 4) dX1_ruleOf_4 1 rfl ?_
  refine xw_callV (pc := 5) (xr_V (as := [_]) ok_X2_rule rfl (by decide) q1338 q1339 q1340 (by rw [hM.P.tag]; rfl) (by rw [hM.P.tag]; rfl) dX1_ruleOf_5 rfl rfl (Nat.le_of_ble_eq_true rfl)) (SP_X2_rule hM.P.pl r (by omega) (hM.P.ru hr).1) ?_
  refine xw_astore_n (l' := [(3, _), (0, _), (1, _), (2, _)]) (pc := 8) dX1_ruleOf_8 rfl (by decide) rfl ?_
  refine xw_iload_n (pc := 9) dX1_ruleOf_9 3 rfl ?_
  refine xw_iconst (v := nI 0) (pc := 10) dX1_ruleOf_10 rfl ?_
  refine xw_bipush (v := nI 9) (pc := 11) dX1_ruleOf_11 (by decide +kernel) ?_
  refine xw_callV (pc := 13) (xr_S (as := [_, _, _]) ok_X1_isIn rfl (by decide) q1180 q784 dX1_ruleOf_13 rfl rfl (Nat.le_of_ble_eq_true rfl)) (SP_X1_isInT (by decide)) ?_
  refine xw_callU (pc := 16) (xr_S (as := [_]) ok_X1_check rfl (by decide) q1181 q1182 dX1_ruleOf_16 rfl rfl (Nat.le_of_ble_eq_true rfl)) (SP_X1_check_T) ?_
  refine xw_iload_n (pc := 19) dX1_ruleOf_19 3 rfl ?_
  refine xw_tableIn (x := nI 6) (pc := 20) 105 dX1_ruleOf_20 (by decide) (by decide) rfl rfl ?_
  refine xw_aload_n (pc := 105) dX1_ruleOf_105 0 rfl ?_
  refine xw_rdepth (pc := 106) u1 dX1_ruleOf_106 q1480 (Nat.le_of_ble_eq_true rfl) ?_
  rw [u12]
  refine xw_iret (pc := 109) .int dX1_ruleOf_109 rfl ?_ 
  exact ⟨rfl, rfl⟩

theorem SP_X1_ruleOf7 {d : Nat} {g : xG} {x p lk fa ka la n rr ww : Nat} {Z : xAd} {S : xMS} (hM : xMn g x p lk fa ka la Z S n rr ww) {r : Nat} (hr : r < rr) : XM M_X1_ruleOf (d + 80) [.ref x, .int (nI r), .int (nI 7)] g (xOne (some (.int (S 1 (23 + 20 * r + 7)))) g) := by
  have hlr := hM.P.lr
  have r16 := hM.P.wf.r16
  obtain ⟨u1, u2, u3, u4, u5, u6, u7, u8, u9, u10, u11, u12, u13⟩ := hM.P.ru hr
  have wr := hM.P.wf.ru hr
  have sb : xsub 90 (xtag g ((aR Z).getD r 0)) = true := xRu_x (hM.P.ru hr)
  refine xm_of (by decide +kernel) (Nat.le_of_ble_eq_true rfl) ?_
  show XW _ _ 0 [(0, _), (1, _), (2, _)] [] _ _
  refine xw_aload_n (pc := 0) dX1_ruleOf_0 0 rfl ?_
  refine xw_getS (b := p) (pc := 1) fd_X1_10 dX1_ruleOf_1 (by first | assumption | (simp [-List.getD_eq_getElem?_getD, xE_setI, xsz_setI, xsl_setI, xtag_setI, xown_setI, xlen_setI, xE_setR, xsz_setR, xsl_setR, xtag_setR, xown_setR, xlen_setR, xE_setW, xsz_setW, xsl_setW, xtag_setW, xown_setW, xlen_setW, xi_setR, xi_setW, xr_setI, xr_setW, xww_setI, xww_setR, xi_setI, xr_setR, xww_setW, xE_new, xsz_new, xsl_new, hM.tx, hM.xp, hM.l3, sb, u8, xsub]; done) | (simp [-List.getD_eq_getElem?_getD, xE_setI, xsz_setI, xsl_setI, xtag_setI, xown_setI, xlen_setI, xE_setR, xsz_setR, xsl_setR, xtag_setR, xown_setR, xlen_setR, xE_setW, xsz_setW, xsl_setW, xtag_setW, xown_setW, xlen_setW, xi_setR, xi_setW, xr_setI, xr_setW, xww_setI, xww_setR, xi_setI, xr_setR, xww_setW, xE_new, xsz_new, xsl_new, hM.tx, hM.xp, hM.l3, sb, u8] <;> rfl)) (by simp [-List.getD_eq_getElem?_getD, xE_setI, xsz_setI, xsl_setI, xtag_setI, xown_setI, xlen_setI, xE_setR, xsz_setR, xsl_setR, xtag_setR, xown_setR, xlen_setR, xE_setW, xsz_setW, xsl_setW, xtag_setW, xown_setW, xlen_setW, xi_setR, xi_setW, xr_setI, xr_setW, xww_setI, xww_setR, xi_setI, xr_setR, xww_setW, xE_new, xsz_new, xsl_new, hM.tx, hM.xp, hM.l3, sb, u8]) ?_
  refine xw_iload_n (pc := 4) dX1_ruleOf_4 1 rfl ?_
  refine xw_callV (pc := 5) (xr_V (as := [_]) ok_X2_rule rfl (by decide) q1338 q1339 q1340 (by rw [hM.P.tag]; rfl) (by rw [hM.P.tag]; rfl) dX1_ruleOf_5 rfl rfl (Nat.le_of_ble_eq_true rfl)) (SP_X2_rule hM.P.pl r (by omega) (hM.P.ru hr).1) ?_
  refine xw_astore_n (l' := [(3, _), (0, _), (1, _), (2, _)]) (pc := 8) dX1_ruleOf_8 rfl (by decide) rfl ?_
  refine xw_iload_n (pc := 9) dX1_ruleOf_9 3 rfl ?_
  refine xw_iconst (v := nI 0) (pc := 10) dX1_ruleOf_10 rfl ?_
  refine xw_bipush (v := nI 9) (pc := 11) dX1_ruleOf_11 (by decide +kernel) ?_
  refine xw_callV (pc := 13) (xr_S (as := [_, _, _]) ok_X1_isIn rfl (by decide) q1180 q784 dX1_ruleOf_13 rfl rfl (Nat.le_of_ble_eq_true rfl)) (SP_X1_isInT (by decide)) ?_
  refine xw_callU (pc := 16) (xr_S (as := [_]) ok_X1_check rfl (by decide) q1181 q1182 dX1_ruleOf_16 rfl rfl (Nat.le_of_ble_eq_true rfl)) (SP_X1_check_T) ?_
  refine xw_iload_n (pc := 19) dX1_ruleOf_19 3 rfl ?_
  refine xw_tableIn (x := nI 7) (pc := 20) 110 dX1_ruleOf_20 (by decide) (by decide) rfl rfl ?_
  refine xw_aload_n (pc := 110) dX1_ruleOf_110 0 rfl ?_
  refine xw_getS (b := (aTl Z r)) (pc := 111) fd_X1_262 dX1_ruleOf_111 (by first | assumption | (simp [-List.getD_eq_getElem?_getD, xE_setI, xsz_setI, xsl_setI, xtag_setI, xown_setI, xlen_setI, xE_setR, xsz_setR, xsl_setR, xtag_setR, xown_setR, xlen_setR, xE_setW, xsz_setW, xsl_setW, xtag_setW, xown_setW, xlen_setW, xi_setR, xi_setW, xr_setI, xr_setW, xww_setI, xww_setR, xi_setI, xr_setR, xww_setW, xE_new, xsz_new, xsl_new, hM.tx, hM.xp, hM.l3, sb, u8, xsub]; done) | (simp [-List.getD_eq_getElem?_getD, xE_setI, xsz_setI, xsl_setI, xtag_setI, xown_setI, xlen_setI, xE_setR, xsz_setR, xsl_setR, xtag_setR, xown_setR, xlen_setR, xE_setW, xsz_setW, xsl_setW, xtag_setW, xown_setW, xlen_setW, xi_setR, xi_setW, xr_setI, xr_setW, xww_setI, xww_setR, xi_setI, xr_setR, xww_setW, xE_new, xsz_new, xsl_new, hM.tx, hM.xp, hM.l3, sb, u8] <;> rfl)) (by simp [-List.getD_eq_getElem?_getD, xE_setI, xsz_setI, xsl_setI, xtag_setI, xown_setI, xlen_setI, xE_setR, xsz_setR, xsl_setR, xtag_setR, xown_setR, xlen_setR, xE_setW, xsz_setW, xsl_setW, xtag_setW, xown_setW, xlen_setW, xi_setR, xi_setW, xr_setI, xr_setW, xww_setI, xww_setR, xi_setI, xr_setR, xww_setW, xE_new, xsz_new, xsl_new, hM.tx, hM.xp, hM.l3, sb, u8]) ?_
  refine xw_callV (pc := 114) (xr_V (as := []) ok_J2_size rfl (by decide) q701 q702 q703 (by rw [u9.1]; rfl) (by rw [u9.1]; rfl) dX1_ruleOf_114 rfl rfl (Nat.le_of_ble_eq_true rfl)) (SP_J2_size u9) ?_
  rw [u10.1, ← wr.2.2.2.2.2.1.1]
  refine xw_iret (pc := 117) .int dX1_ruleOf_117 rfl ?_ 
  exact ⟨rfl, rfl⟩

theorem SP_X1_ruleOf9 {d : Nat} {g : xG} {x p lk fa ka la n rr ww : Nat} {Z : xAd} {S : xMS} (hM : xMn g x p lk fa ka la Z S n rr ww) {r : Nat} (hr : r < rr) : XM M_X1_ruleOf (d + 80) [.ref x, .int (nI r), .int (nI 9)] g (xOne (some (.int (S 1 (23 + 20 * r + 6)))) g) := by
  have hlr := hM.P.lr
  have r16 := hM.P.wf.r16
  obtain ⟨u1, u2, u3, u4, u5, u6, u7, u8, u9, u10, u11, u12, u13⟩ := hM.P.ru hr
  have wr := hM.P.wf.ru hr
  have sb : xsub 90 (xtag g ((aR Z).getD r 0)) = true := xRu_x (hM.P.ru hr)
  refine xm_of (by decide +kernel) (Nat.le_of_ble_eq_true rfl) ?_
  show XW _ _ 0 [(0, _), (1, _), (2, _)] [] _ _
  refine xw_aload_n (pc := 0) dX1_ruleOf_0 0 rfl ?_
  refine xw_getS (b := p) (pc := 1) fd_X1_10 dX1_ruleOf_1 (by first | assumption | (simp [-List.getD_eq_getElem?_getD, xE_setI, xsz_setI, xsl_setI, xtag_setI, xown_setI, xlen_setI, xE_setR, xsz_setR, xsl_setR, xtag_setR, xown_setR, xlen_setR, xE_setW, xsz_setW, xsl_setW, xtag_setW, xown_setW, xlen_setW, xi_setR, xi_setW, xr_setI, xr_setW, xww_setI, xww_setR, xi_setI, xr_setR, xww_setW, xE_new, xsz_new, xsl_new, hM.tx, hM.xp, hM.l3, sb, u8, xsub]; done) | (simp [-List.getD_eq_getElem?_getD, xE_setI, xsz_setI, xsl_setI, xtag_setI, xown_setI, xlen_setI, xE_setR, xsz_setR, xsl_setR, xtag_setR, xown_setR, xlen_setR, xE_setW, xsz_setW, xsl_setW, xtag_setW, xown_setW, xlen_setW, xi_setR, xi_setW, xr_setI, xr_setW, xww_setI, xww_setR, xi_setI, xr_setR, xww_setW, xE_new, xsz_new, xsl_new, hM.tx, hM.xp, hM.l3, sb, u8] <;> rfl)) (by simp [-List.getD_eq_getElem?_getD, xE_setI, xsz_setI, xsl_setI, xtag_setI, xown_setI, xlen_setI, xE_setR, xsz_setR, xsl_setR, xtag_setR, xown_setR, xlen_setR, xE_setW, xsz_setW, xsl_setW, xtag_setW, xown_setW, xlen_setW, xi_setR, xi_setW, xr_setI, xr_setW, xww_setI, xww_setR, xi_setI, xr_setR, xww_setW, xE_new, xsz_new, xsl_new, hM.tx, hM.xp, hM.l3, sb, u8]) ?_
  refine xw_iload_n (pc := 4) dX1_ruleOf_4 1 rfl ?_
  refine xw_callV (pc := 5) (xr_V (as := [_]) ok_X2_rule rfl (by decide) q1338 q1339 q1340 (by rw [hM.P.tag]; rfl) (by rw [hM.P.tag]; rfl) dX1_ruleOf_5 rfl rfl (Nat.le_of_ble_eq_true rfl)) (SP_X2_rule hM.P.pl r (by omega) (hM.P.ru hr).1) ?_
  refine xw_astore_n (l' := [(3, _), (0, _), (1, _), (2, _)]) (pc := 8) dX1_ruleOf_8 rfl (by decide) rfl ?_
  refine xw_iload_n (pc := 9) dX1_ruleOf_9 3 rfl ?_
  refine xw_iconst (v := nI 0) (pc := 10) dX1_ruleOf_10 rfl ?_
  refine xw_bipush (v := nI 9) (pc := 11) dX1_ruleOf_11 (by decide +kernel) ?_
  refine xw_callV (pc := 13) (xr_S (as := [_, _, _]) ok_X1_isIn rfl (by decide) q1180 q784 dX1_ruleOf_13 rfl rfl (Nat.le_of_ble_eq_true rfl)) (SP_X1_isInT (by decide)) ?_
  refine xw_callU (pc := 16) (xr_S (as := [_]) ok_X1_check rfl (by decide) q1181 q1182 dX1_ruleOf_16 rfl rfl (Nat.le_of_ble_eq_true rfl)) (SP_X1_check_T) ?_
  refine xw_iload_n (pc := 19) dX1_ruleOf_19 3 rfl ?_
  refine xw_tableOut (pc := 20) 132 dX1_ruleOf_20 (by rw [nI_toInt (by omega)]; omega) rfl ?_
  refine xw_aload_n (pc := 132) dX1_ruleOf_132 0 rfl ?_
  refine xw_getI (pc := 133) fd_X1_286 dX1_ruleOf_133 (by first | assumption | (simp [-List.getD_eq_getElem?_getD, xE_setI, xsz_setI, xsl_setI, xtag_setI, xown_setI, xlen_setI, xE_setR, xsz_setR, xsl_setR, xtag_setR, xown_setR, xlen_setR, xE_setW, xsz_setW, xsl_setW, xtag_setW, xown_setW, xlen_setW, xi_setR, xi_setW, xr_setI, xr_setW, xww_setI, xww_setR, xi_setI, xr_setR, xww_setW, xE_new, xsz_new, xsl_new, hM.tx, hM.xp, hM.l3, sb, u8, xsub]; done) | (simp [-List.getD_eq_getElem?_getD, xE_setI, xsz_setI, xsl_setI, xtag_setI, xown_setI, xlen_setI, xE_setR, xsz_setR, xsl_setR, xtag_setR, xown_setR, xlen_setR, xE_setW, xsz_setW, xsl_setW, xtag_setW, xown_setW, xlen_setW, xi_setR, xi_setW, xr_setI, xr_setW, xww_setI, xww_setR, xi_setI, xr_setR, xww_setW, xE_new, xsz_new, xsl_new, hM.tx, hM.xp, hM.l3, sb, u8] <;> rfl)) ?_
  rw [u7]
  refine xw_iret (pc := 136) .int dX1_ruleOf_136 rfl ?_ 
  exact ⟨rfl, rfl⟩

