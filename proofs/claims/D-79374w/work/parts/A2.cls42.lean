/-! CLASS 42: the sheet -/
set_option maxRecDepth 100000
/-- the sheet sh, of sign sg (4: of all), holds what s9 says -/
def xShQ (g : xG) (sh Q sg : Nat) (s9 : Nat → Int32) : Prop := xown g sh = 8 ∧ sg ≤ 4 ∧ xtag g sh = 101 + Q ∧ Q = (if sg = 4 then 8 else 9 + sg) ∧ xlen g sh = 6 ∧ ∀ k, k < 6 → (s9 (3 * k) = -1 ∧ xr g sh k = none) ∨ ∃ b, xr g sh k = some b ∧ xTe g b s9 (3 * k) ∧ (sg = 4 ∨ s9 (3 * k + 1) = nI sg)
theorem xSh.Q {g : xG} {x : Nat} {S : xMS} (h : xSh g x S) : ∃ sh Q sg, xr g x 6 = some sh ∧ S 0 17 = nI sg ∧ xShQ g sh Q sg (S 9) := by
  obtain ⟨sh, sg, a1, a2, a3, a4, a5, a6, a7⟩ := h
  refine ⟨sh, if sg = 4 then 8 else 9 + sg, sg, a1, a3, a2, a4, ?_, rfl, a6, a7⟩
  rw [a5]
  split <;> omega
theorem xShQ.sh {g : xG} {x sh Q sg : Nat} {S : xMS} (h : xShQ g sh Q sg (S 9)) (h6 : xr g x 6 = some sh) (h17 : S 0 17 = nI sg) : xSh g x S := by
  obtain ⟨a1, a2, a3, a4, a5, a6⟩ := h
  refine ⟨sh, sg, h6, a1, h17, a2, ?_, a5, a6⟩
  rw [a3, a4]
  split <;> omega
theorem xShQ.fr {O : Nat → Prop} {N : Nat} {g g' : xG} {sh Q sg : Nat} {s9 : Nat → Int32} (h : xShQ g sh Q sg s9) (F : xFr O N g g') (h2 : ¬ O 2) (h8 : ¬ O 8) : xShQ g' sh Q sg s9 := by
  obtain ⟨a1, a2, a3, a4, a5, a6⟩ := h
  have hl : sh < xsz g := xlt (by rw [a3]; omega)
  have ho : ¬ O (xown g sh) := by rw [a1]; exact h8
  refine ⟨(F.own hl).trans a1, a2, (F.tag hl).trans a3, a4, (F.len hl).trans a5, fun k hk => ?_⟩
  rw [F.r' hl ho]
  rcases a6 k hk with q | ⟨b, q1, q2, q3⟩
  · exact Or.inl q
  · exact Or.inr ⟨b, q1, q2.fr F h2, q3⟩
/-- what lies on the sheet -/
def osQ (s9 : Nat → Int32) (k : Nat) : Bool := !decide (s9 (3 * k) < 0)
theorem osQ_f {s9 : Nat → Int32} {k : Nat} (h : s9 (3 * k) = -1) : osQ s9 k = false := by unfold osQ; rw [h]; decide
theorem osQ_t {s9 : Nat → Int32} {k b : Nat} (h : isN s9 (3 * k) b) (hb : b < 2 ^ 31) : osQ s9 k = true := by unfold osQ; rw [h.1]; rw [decide_eq_false (nI_pos (by have := h.2; omega))]; rfl
theorem lp_X1_onSheet {d : Nat} {g : xG} {x sh Q sg : Nat} {s9 : Nat → Int32} (hx : xtag g x = 1) (h6 : xr g x 6 = some sh) (hS : xShQ g sh Q sg s9) : ∀ (j k : Nat), 6 - k < j → k ≤ 6 → XW M_X1_onSheet d 4 [(2, .int (nI k)), (1, .int (nI (cntB (osQ s9) k))), (0, .ref x)] [] g (xOne (some (.int (nI (cntB (osQ s9) 6)))) g) := by
  have hS0 := hS
  obtain ⟨s1, s2, s3, s4, s5, s6⟩ := hS
  have hQ : Q < 14 ∧ 7 ≤ Q := by rw [s4]; split <;> omega
  have cle := cntB_le (osQ s9)
  intro j
  induction j with
  | zero => intro k h; omega
  | succ j ih =>
  intro k hj hk
  have ck := cle k
  by_cases h9 : k < 6
  · rcases s6 k h9 with ⟨q1, q2⟩ | ⟨b0, q1, q2, q3⟩
    · have hos := osQ_f q1
      refine xw_iload_n (pc := 4) dX1_onSheet_4 0 rfl ?_
      refine xw_bipush (v := nI 6) (pc := 5) dX1_onSheet_5 (by decide +kernel) ?_
      refine xw_icmp_ge (pc := 7) 33 dX1_onSheet_7 rfl (fun hb7 => ?_) (fun hb7 => ?_)
      · exfalso
        replace hb7 : 6 ≤ k := (nI_leI (a := 6) (b := k) (by omega) (by omega)).mp hb7
        omega
      replace hb7 : ¬ (6 ≤ k) := mt (nI_leI (a := 6) (b := k) (by omega) (by omega)).mpr hb7
      refine xw_iload_n (pc := 10) dX1_onSheet_10 1 rfl ?_
      refine xw_aload_n (pc := 11) dX1_onSheet_11 2 rfl ?_
      refine xw_getS (b := sh) (pc := 12) fd_X1_34 dX1_onSheet_12 (by first | assumption | (simp [-List.getD_eq_getElem?_getD, xE_setI, xsz_setI, xsl_setI, xtag_setI, xown_setI, xlen_setI, xE_setR, xsz_setR, xsl_setR, xtag_setR, xown_setR, xlen_setR, xE_setW, xsz_setW, xsl_setW, xtag_setW, xown_setW, xlen_setW, xi_setR, xi_setW, xr_setI, xr_setW, xww_setI, xww_setR, xi_setI, xr_setR, xww_setW, xE_new, xsz_new, xsl_new, hx, h6, s3, s5, xsub]; done) | (simp [-List.getD_eq_getElem?_getD, xE_setI, xsz_setI, xsl_setI, xtag_setI, xown_setI, xlen_setI, xE_setR, xsz_setR, xsl_setR, xtag_setR, xown_setR, xlen_setR, xE_setW, xsz_setW, xsl_setW, xtag_setW, xown_setW, xlen_setW, xi_setR, xi_setW, xr_setI, xr_setW, xww_setI, xww_setR, xi_setI, xr_setR, xww_setW, xE_new, xsz_new, xsl_new, hx, h6, s3, s5] <;> rfl)) (by simp [-List.getD_eq_getElem?_getD, xE_setI, xsz_setI, xsl_setI, xtag_setI, xown_setI, xlen_setI, xE_setR, xsz_setR, xsl_setR, xtag_setR, xown_setR, xlen_setR, xE_setW, xsz_setW, xsl_setW, xtag_setW, xown_setW, xlen_setW, xi_setR, xi_setW, xr_setI, xr_setW, xww_setI, xww_setR, xi_setI, xr_setR, xww_setW, xE_new, xsz_new, xsl_new, hx, h6, s3, s5]) ?_
      refine xw_iload_n (pc := 15) dX1_onSheet_15 0 rfl ?_
      skip
      refine xw_aald (q := Q) (k := k) (pc := 16) dX1_onSheet_16 (by simp [-List.getD_eq_getElem?_getD, xE_setI, xsz_setI, xsl_setI, xtag_setI, xown_setI, xlen_setI, xE_setR, xsz_setR, xsl_setR, xtag_setR, xown_setR, xlen_setR, xE_setW, xsz_setW, xsl_setW, xtag_setW, xown_setW, xlen_setW, xi_setR, xi_setW, xr_setI, xr_setW, xww_setI, xww_setR, xi_setI, xr_setR, xww_setW, xE_new, xsz_new, xsl_new, hx, h6, s3, s5]) (by first | decide | omega) (by first | decide | omega) rfl (by omega) ?_
      rw [q2]
      refine xw_ifnonnullN (pc := 17) dX1_onSheet_17 ?_
      refine xw_iconst (v := nI 0) (pc := 20) dX1_onSheet_20 rfl ?_
      refine xw_goto (pc := 21) 25 dX1_onSheet_21 rfl ?_
      refine xn_iadd (pc := 25) dX1_onSheet_25 ?_
      refine xw_istore_n (l' := [(1, _), (2, _), (0, _)]) (pc := 26) dX1_onSheet_26 rfl (by decide) rfl ?_
      refine xw_iinc (v := nI (k + 1)) (l' := [(2, _), (1, _), (0, _)]) (pc := 27) dX1_onSheet_27 1 rfl (nI_add _ 1) (by decide) rfl ?_
      refine xw_goto (pc := 30) 4 dX1_onSheet_30 rfl ?_
      rw [show cntB (osQ s9) k + 0 = cntB (osQ s9) (k + 1) from (cntB_f hos).symm]
      exact ih (k + 1) (by omega) (by omega)
    · have hos := osQ_t q2.2.2.2.1 (by decide)
      refine xw_iload_n (pc := 4) dX1_onSheet_4 0 rfl ?_
      refine xw_bipush (v := nI 6) (pc := 5) dX1_onSheet_5 (by decide +kernel) ?_
      refine xw_icmp_ge (pc := 7) 33 dX1_onSheet_7 rfl (fun hb7 => ?_) (fun hb7 => ?_)
      · exfalso
        replace hb7 : 6 ≤ k := (nI_leI (a := 6) (b := k) (by omega) (by omega)).mp hb7
        omega
      replace hb7 : ¬ (6 ≤ k) := mt (nI_leI (a := 6) (b := k) (by omega) (by omega)).mpr hb7
      refine xw_iload_n (pc := 10) dX1_onSheet_10 1 rfl ?_
      refine xw_aload_n (pc := 11) dX1_onSheet_11 2 rfl ?_
      refine xw_getS (b := sh) (pc := 12) fd_X1_34 dX1_onSheet_12 (by first | assumption | (simp [-List.getD_eq_getElem?_getD, xE_setI, xsz_setI, xsl_setI, xtag_setI, xown_setI, xlen_setI, xE_setR, xsz_setR, xsl_setR, xtag_setR, xown_setR, xlen_setR, xE_setW, xsz_setW, xsl_setW, xtag_setW, xown_setW, xlen_setW, xi_setR, xi_setW, xr_setI, xr_setW, xww_setI, xww_setR, xi_setI, xr_setR, xww_setW, xE_new, xsz_new, xsl_new, hx, h6, s3, s5, xsub]; done) | (simp [-List.getD_eq_getElem?_getD, xE_setI, xsz_setI, xsl_setI, xtag_setI, xown_setI, xlen_setI, xE_setR, xsz_setR, xsl_setR, xtag_setR, xown_setR, xlen_setR, xE_setW, xsz_setW, xsl_setW, xtag_setW, xown_setW, xlen_setW, xi_setR, xi_setW, xr_setI, xr_setW, xww_setI, xww_setR, xi_setI, xr_setR, xww_setW, xE_new, xsz_new, xsl_new, hx, h6, s3, s5] <;> rfl)) (by simp [-List.getD_eq_getElem?_getD, xE_setI, xsz_setI, xsl_setI, xtag_setI, xown_setI, xlen_setI, xE_setR, xsz_setR, xsl_setR, xtag_setR, xown_setR, xlen_setR, xE_setW, xsz_setW, xsl_setW, xtag_setW, xown_setW, xlen_setW, xi_setR, xi_setW, xr_setI, xr_setW, xww_setI, xww_setR, xi_setI, xr_setR, xww_setW, xE_new, xsz_new, xsl_new, hx, h6, s3, s5]) ?_
      refine xw_iload_n (pc := 15) dX1_onSheet_15 0 rfl ?_
      skip
      refine xw_aald (q := Q) (k := k) (pc := 16) dX1_onSheet_16 (by simp [-List.getD_eq_getElem?_getD, xE_setI, xsz_setI, xsl_setI, xtag_setI, xown_setI, xlen_setI, xE_setR, xsz_setR, xsl_setR, xtag_setR, xown_setR, xlen_setR, xE_setW, xsz_setW, xsl_setW, xtag_setW, xown_setW, xlen_setW, xi_setR, xi_setW, xr_setI, xr_setW, xww_setI, xww_setR, xi_setI, xr_setR, xww_setW, xE_new, xsz_new, xsl_new, hx, h6, s3, s5]) (by first | decide | omega) (by first | decide | omega) rfl (by omega) ?_
      rw [show xr g sh k = some b0 from by exact q1]
      refine xw_ifnonnull (pc := 17) 24 dX1_onSheet_17 rfl ?_
      refine xw_iconst (v := nI 1) (pc := 24) dX1_onSheet_24 rfl ?_
      refine xn_iadd (pc := 25) dX1_onSheet_25 ?_
      refine xw_istore_n (l' := [(1, _), (2, _), (0, _)]) (pc := 26) dX1_onSheet_26 rfl (by decide) rfl ?_
      refine xw_iinc (v := nI (k + 1)) (l' := [(2, _), (1, _), (0, _)]) (pc := 27) dX1_onSheet_27 1 rfl (nI_add _ 1) (by decide) rfl ?_
      refine xw_goto (pc := 30) 4 dX1_onSheet_30 rfl ?_
      rw [show cntB (osQ s9) k + 1 = cntB (osQ s9) (k + 1) from (cntB_t hos).symm]
      exact ih (k + 1) (by omega) (by omega)
  · have ek : k = 6 := by omega
    subst ek
    refine xw_iload_n (pc := 4) dX1_onSheet_4 0 rfl ?_
    refine xw_bipush (v := nI 6) (pc := 5) dX1_onSheet_5 (by decide +kernel) ?_
    refine xw_icmp_ge (pc := 7) 33 dX1_onSheet_7 rfl (fun _ => ?_) (fun hb => absurd hb (by decide))
    refine xw_iload_n (pc := 33) dX1_onSheet_33 1 rfl ?_
    refine xw_iret (pc := 34) .int dX1_onSheet_34 rfl ?_ 
    exact ⟨rfl, rfl⟩
theorem SP_X1_onSheet {d : Nat} {g : xG} {x sh Q sg : Nat} {s9 : Nat → Int32} (hx : xtag g x = 1) (h6 : xr g x 6 = some sh) (hS : xShQ g sh Q sg s9) : XM M_X1_onSheet d [.ref x] g (xOne (some (.int (nI (cntB (osQ s9) 6)))) g) := by
  refine xm_of (by decide +kernel) (Nat.le_of_ble_eq_true rfl) ?_
  show XW _ _ 0 [(0, _)] [] _ _
  refine xw_iconst (v := nI 0) (pc := 0) dX1_onSheet_0 rfl ?_
  refine xw_istore_n (l' := [(1, _), (0, _)]) (pc := 1) dX1_onSheet_1 rfl (by decide) rfl ?_
  refine xw_iconst (v := nI 0) (pc := 2) dX1_onSheet_2 rfl ?_
  refine xw_istore_n (l' := [(2, _), (1, _), (0, _)]) (pc := 3) dX1_onSheet_3 rfl (by decide) rfl ?_
  exact lp_X1_onSheet hx h6 hS 7 0 (by omega) (by omega)

theorem SP_X1_sheetOf0 {d : Nat} {g : xG} : XM M_X1_sheetOf d [.int (nI 0)] g (xOne (some (.ref (xsz g))) (xNew g (xBlank 110 8 6) 6)) := by
  refine xm_of (by decide +kernel) (Nat.le_of_ble_eq_true rfl) ?_
  show XW _ _ 0 [(0, _)] [] _ _
  refine xw_iload_n (pc := 0) dX1_sheetOf_0 0 rfl ?_
  refine xw_tableIn (x := nI 0) (pc := 1) 32 dX1_sheetOf_1 (by decide) (by decide) rfl rfl ?_
  refine xw_bipush (v := nI 6) (pc := 32) dX1_sheetOf_32 (by decide +kernel) ?_
  refine xw_anew (q := 9) (n := 6) (pc := 34) 8 dX1_sheetOf_34 (by decide) (by decide) rfl q1375 (by decide) (by first | decide | assumption | omega) rfl (by omega) ?_
  refine xw_at (a := (xsz g)) (by rfl) ?_
  refine xw_aret (pc := 37) (.array (.object "PolicyNotation$Test")) dX1_sheetOf_37 rfl ?_
  exact ⟨rfl, rfl⟩

theorem SP_X1_sheetOf1 {d : Nat} {g : xG} : XM M_X1_sheetOf d [.int (nI 1)] g (xOne (some (.ref (xsz g))) (xNew g (xBlank 111 8 6) 6)) := by
  refine xm_of (by decide +kernel) (Nat.le_of_ble_eq_true rfl) ?_
  show XW _ _ 0 [(0, _)] [] _ _
  refine xw_iload_n (pc := 0) dX1_sheetOf_0 0 rfl ?_
  refine xw_tableIn (x := nI 1) (pc := 1) 38 dX1_sheetOf_1 (by decide) (by decide) rfl rfl ?_
  refine xw_bipush (v := nI 6) (pc := 38) dX1_sheetOf_38 (by decide +kernel) ?_
  refine xw_anew (q := 10) (n := 6) (pc := 40) 8 dX1_sheetOf_40 (by decide) (by decide) rfl q1391 (by decide) (by first | decide | assumption | omega) rfl (by omega) ?_
  refine xw_at (a := (xsz g)) (by rfl) ?_
  refine xw_aret (pc := 43) (.array (.object "PolicyNotation$Test")) dX1_sheetOf_43 rfl ?_
  exact ⟨rfl, rfl⟩

theorem SP_X1_sheetOf2 {d : Nat} {g : xG} : XM M_X1_sheetOf d [.int (nI 2)] g (xOne (some (.ref (xsz g))) (xNew g (xBlank 112 8 6) 6)) := by
  refine xm_of (by decide +kernel) (Nat.le_of_ble_eq_true rfl) ?_
  show XW _ _ 0 [(0, _)] [] _ _
  refine xw_iload_n (pc := 0) dX1_sheetOf_0 0 rfl ?_
  refine xw_tableIn (x := nI 2) (pc := 1) 44 dX1_sheetOf_1 (by decide) (by decide) rfl rfl ?_
  refine xw_bipush (v := nI 6) (pc := 44) dX1_sheetOf_44 (by decide +kernel) ?_
  refine xw_anew (q := 11) (n := 6) (pc := 46) 8 dX1_sheetOf_46 (by decide) (by decide) rfl q1400 (by decide) (by first | decide | assumption | omega) rfl (by omega) ?_
  refine xw_at (a := (xsz g)) (by rfl) ?_
  refine xw_aret (pc := 49) (.array (.object "PolicyNotation$Test")) dX1_sheetOf_49 rfl ?_
  exact ⟨rfl, rfl⟩

theorem SP_X1_sheetOf3 {d : Nat} {g : xG} : XM M_X1_sheetOf d [.int (nI 3)] g (xOne (some (.ref (xsz g))) (xNew g (xBlank 113 8 6) 6)) := by
  refine xm_of (by decide +kernel) (Nat.le_of_ble_eq_true rfl) ?_
  show XW _ _ 0 [(0, _)] [] _ _
  refine xw_iload_n (pc := 0) dX1_sheetOf_0 0 rfl ?_
  refine xw_tableIn (x := nI 3) (pc := 1) 50 dX1_sheetOf_1 (by decide) (by decide) rfl rfl ?_
  refine xw_bipush (v := nI 6) (pc := 50) dX1_sheetOf_50 (by decide +kernel) ?_
  refine xw_anew (q := 12) (n := 6) (pc := 52) 8 dX1_sheetOf_52 (by decide) (by decide) rfl q1409 (by decide) (by first | decide | assumption | omega) rfl (by omega) ?_
  refine xw_at (a := (xsz g)) (by rfl) ?_
  refine xw_aret (pc := 55) (.array (.object "PolicyNotation$Test")) dX1_sheetOf_55 rfl ?_
  exact ⟨rfl, rfl⟩

theorem SP_X1_sheetOf4 {d : Nat} {g : xG} : XM M_X1_sheetOf d [.int (nI 4)] g (xOne (some (.ref (xsz g))) (xNew g (xBlank 109 8 6) 6)) := by
  refine xm_of (by decide +kernel) (Nat.le_of_ble_eq_true rfl) ?_
  show XW _ _ 0 [(0, _)] [] _ _
  refine xw_iload_n (pc := 0) dX1_sheetOf_0 0 rfl ?_
  refine xw_tableOut (pc := 1) 56 dX1_sheetOf_1 (by rw [nI_toInt (by omega)]; omega) rfl ?_
  refine xw_bipush (v := nI 6) (pc := 56) dX1_sheetOf_56 (by decide +kernel) ?_
  refine xw_anew (q := 8) (n := 6) (pc := 58) 8 dX1_sheetOf_58 (by decide) (by decide) rfl q656 (by decide) (by first | decide | assumption | omega) rfl (by omega) ?_
  refine xw_at (a := (xsz g)) (by rfl) ?_
  refine xw_aret (pc := 61) (.array (.object "PolicyNotation$Test")) dX1_sheetOf_61 rfl ?_
  exact ⟨rfl, rfl⟩

theorem SP_X1_sheetOf {d : Nat} {g : xG} (w : Nat) (hw : w ≤ 4) : XM M_X1_sheetOf d [.int (nI w)] g (xOne (some (.ref (xsz g))) (xNew g (xBlank (101 + (if w = 4 then 8 else 9 + w)) 8 6) 6)) := by
  have h : w = 0 ∨ w = 1 ∨ w = 2 ∨ w = 3 ∨ w = 4 := by omega
  rcases h with h | h | h | h | h <;> subst h
  · exact SP_X1_sheetOf0
  · exact SP_X1_sheetOf1
  · exact SP_X1_sheetOf2
  · exact SP_X1_sheetOf3
  · exact SP_X1_sheetOf4
theorem SP_X1_sheet_F {d : Nat} {g : xG} {x : Nat} {v : Int32} (hv : ¬ inR v (nI 0) (nI 4) = true) : XM M_X1_sheet (d + 80) [.ref x, .int v] g (xThr (xsz g) (xExc g 22)) := by
  refine xm_of (by decide +kernel) (Nat.le_of_ble_eq_true rfl) ?_
  show XW _ _ 0 [(0, _), (1, _)] [] _ _
  refine xw_iload_n (pc := 0) dX1_sheet_0 1 rfl ?_
  refine xw_iconst (v := nI 0) (pc := 1) dX1_sheet_1 rfl ?_
  refine xw_iconst (v := nI 4) (pc := 2) dX1_sheet_2 rfl ?_
  refine xw_callV (pc := 3) (xr_S (as := [_, _, _]) ok_X1_isIn rfl (by decide) q1180 q784 dX1_sheet_3 rfl rfl (Nat.le_of_ble_eq_true rfl)) (SP_X1_isInF hv) ?_
  refine xw_callX (pc := 6) (xr_S (as := [_]) ok_X1_check rfl (by decide) q1181 q1182 dX1_sheet_6 rfl rfl (Nat.le_of_ble_eq_true rfl)) (SP_X1_check_F) ?_
  exact xx_out0 rfl (by rw [xExc_tag]; decide) (by rw [xExc_tag]; decide) (by rw [xExc_own]; decide) ⟨rfl, rfl⟩

theorem SP_X1_sheet {d : Nat} {g : xG} {x sh Q sg : Nat} {s9 : Nat → Int32} (hx : xtag g x = 1) (h6 : xr g x 6 = some sh) (hS : xShQ g sh Q sg s9) (hxo : xown g x = 1) {w : Nat} (hw : w ≤ 4) : XM M_X1_sheet (d + 80) [.ref x, .int (nI w)] g (xVal (.int (nI (cntB (osQ s9) 6))) (fun g' => xr g' x 6 = some (xsz g) ∧ xShQ g' (xsz g) (if w = 4 then 8 else 9 + w) w (fun _ => -1) ∧ xFr (oEq 1) 7 g g' ∧ (∀ j, j ≠ 6 → xr g' x j = xr g x j) ∧ ∀ j, xi g' x j = xi g x j)) := by
  have hlx : x < xsz g := xlt (by rw [hx]; decide)
  have txN : xtag (xNew g (xBlank (101 + (if w = 4 then 8 else 9 + w)) 8 6) 6) x = xtag g x := xtag_of (xc_newN (by omega))
  have oxN : xown (xNew g (xBlank (101 + (if w = 4 then 8 else 9 + w)) 8 6) 6) x = xown g x := xown_of (xc_newN (by omega))
  have oxn : ¬ xown (xNew g (xBlank (101 + (if w = 4 then 8 else 9 + w)) 8 6) 6) x = 0 := by rw [oxN, hxo]; decide
  have tx1 : xtag (xNew g (xBlank (101 + (if w = 4 then 8 else 9 + w)) 8 6) 6) x = 1 := by rw [txN]; exact hx
  refine xm_of (by decide +kernel) (Nat.le_of_ble_eq_true rfl) ?_
  show XW _ _ 0 [(0, _), (1, _)] [] _ _
  refine xw_iload_n (pc := 0) dX1_sheet_0 1 rfl ?_
  refine xw_iconst (v := nI 0) (pc := 1) dX1_sheet_1 rfl ?_
  refine xw_iconst (v := nI 4) (pc := 2) dX1_sheet_2 rfl ?_
  refine xw_callV (pc := 3) (xr_S (as := [_, _, _]) ok_X1_isIn rfl (by decide) q1180 q784 dX1_sheet_3 rfl rfl (Nat.le_of_ble_eq_true rfl)) (SP_X1_isInT (inR_nat' (by decide) hw)) ?_
  refine xw_callU (pc := 6) (xr_S (as := [_]) ok_X1_check rfl (by decide) q1181 q1182 dX1_sheet_6 rfl rfl (Nat.le_of_ble_eq_true rfl)) (SP_X1_check_T) ?_
  refine xw_aload_n (pc := 9) dX1_sheet_9 0 rfl ?_
  refine xw_callV (pc := 10) (xr_V (as := []) ok_X1_onSheet rfl (by decide) q1703 q1705 qs29 (by rw [hx]; rfl) (by rw [hx]; rfl) dX1_sheet_10 rfl rfl (Nat.le_of_ble_eq_true rfl)) (SP_X1_onSheet hx h6 hS) ?_
  refine xw_istore_n (l' := [(2, _), (0, _), (1, _)]) (pc := 13) dX1_sheet_13 rfl (by decide) rfl ?_
  refine xw_aload_n (pc := 14) dX1_sheet_14 1 rfl ?_
  refine xw_iload_n (pc := 15) dX1_sheet_15 2 rfl ?_
  refine xw_callV (pc := 16) (xr_S (as := [_]) ok_X1_sheetOf rfl (by decide) q1707 q1708 dX1_sheet_16 rfl rfl (Nat.le_of_ble_eq_true rfl)) (SP_X1_sheetOf w hw) ?_
  refine xw_putR (o := (some (xsz g))) (pc := 19) fd_X1_34 (xfin_of (by decide) (by decide +kernel)) dX1_sheet_19 (by first | assumption | (simp [-List.getD_eq_getElem?_getD, xE_setI, xsz_setI, xsl_setI, xtag_setI, xown_setI, xlen_setI, xE_setR, xsz_setR, xsl_setR, xtag_setR, xown_setR, xlen_setR, xE_setW, xsz_setW, xsl_setW, xtag_setW, xown_setW, xlen_setW, xi_setR, xi_setW, xr_setI, xr_setW, xww_setI, xww_setR, xi_setI, xr_setR, xww_setW, xE_new, xsz_new, xsl_new, hx, tx1, oxn, xsub]; done) | (simp [-List.getD_eq_getElem?_getD, xE_setI, xsz_setI, xsl_setI, xtag_setI, xown_setI, xlen_setI, xE_setR, xsz_setR, xsl_setR, xtag_setR, xown_setR, xlen_setR, xE_setW, xsz_setW, xsl_setW, xtag_setW, xown_setW, xlen_setW, xi_setR, xi_setW, xr_setI, xr_setW, xww_setI, xww_setR, xi_setI, xr_setR, xww_setW, xE_new, xsz_new, xsl_new, hx, tx1, oxn] <;> rfl)) (by first | assumption | (simp [-List.getD_eq_getElem?_getD, xE_setI, xsz_setI, xsl_setI, xtag_setI, xown_setI, xlen_setI, xE_setR, xsz_setR, xsl_setR, xtag_setR, xown_setR, xlen_setR, xE_setW, xsz_setW, xsl_setW, xtag_setW, xown_setW, xlen_setW, xi_setR, xi_setW, xr_setI, xr_setW, xww_setI, xww_setR, xi_setI, xr_setR, xww_setW, xE_new, xsz_new, xsl_new, hx, tx1, oxn]; done) | (simp [-List.getD_eq_getElem?_getD, xE_setI, xsz_setI, xsl_setI, xtag_setI, xown_setI, xlen_setI, xE_setR, xsz_setR, xsl_setR, xtag_setR, xown_setR, xlen_setR, xE_setW, xsz_setW, xsl_setW, xtag_setW, xown_setW, xlen_setW, xi_setR, xi_setW, xr_setI, xr_setW, xww_setI, xww_setR, xi_setI, xr_setR, xww_setW, xE_new, xsz_new, xsl_new, hx, tx1, oxn]; assumption)) rfl ?_
  refine xw_iload_n (pc := 22) dX1_sheet_22 0 rfl ?_
  refine xw_iret (pc := 23) .int dX1_sheet_23 rfl ?_ 
  have hts : xtag (xNew g (xBlank (101 + (if w = 4 then 8 else 9 + w)) 8 6) 6) (xsz g) = 101 + (if w = 4 then 8 else 9 + w) := by rw [xtag_newS rfl]; rfl
  refine ⟨rfl, xr_setRS (by rw [txN, hx]; decide), ⟨by rw [xown_setR, xown_newS rfl]; rfl, hw, by rw [xtag_setR]; exact hts, rfl, by rw [xlen_setR, xlen_newS rfl]; rfl, fun k hk => Or.inl ⟨rfl, ?_⟩⟩, ((xFr.rf (n := 0)).nw (k := 6)).sr (Or.inr (oxN.trans hxo)), fun j hj => ?_, fun j => ?_⟩
  · rw [xr_setRN (by omega), xr_newS rfl]; rfl
  · rw [xr_setRK hj]; exact xr_c (xc_newN (by omega))
  · rw [xi_setR]; exact xi_c (xc_newN (by omega))

/-- aastore of an object of the element's own class -/
theorem xw_aastS {M : xM} {d pc : Nat} {l : List (Nat × Value)} {rest : List Value} {g : xG} {Q : Option Value ⊕ Nat → xG → Prop} {a b k q : Nat} {i : Int32} (hd : decode M.2.1 pc = .ok (.aastore, 1)) (ht : xtag g a = 101 + q) (hq : q < 14) (hq7 : 7 ≤ q) (hak : xak q = .object (xnm (xtag g b))) (ho : xown g a ≠ 0) (hi : i = nI k) (hk : k < xlen g a) (hb : xcls (xtag g b) = true) (kk : XW M d (pc + 1) l rest (xsetR g a k (some b)) Q) : XW M d pc l (.ref b :: .int i :: .ref a :: rest) g Q := by
  refine xw_write (c0 := xcR (xc g a) (xup (xc g a).2.2.2.2.1 k (some b))) (fun p L e R s m args below meth c H locs cells slots Qf ls Cx hR hl kk9 => ?_) kk
  have hK := Cx.2.2.2.2.2.2.2.2.2.2.1
  obtain ⟨cell, q1, q2, q3, q4, q5, qA, z1, z2, z3, z4⟩ := x_arr (q := q) hq hK hR ht
  obtain ⟨y1, y2⟩ := x_idx hi hk z2
  obtain ⟨cv, v1, v2, v3⟩ := x_any hK hR hb
  have hRA := (hK.2.1 q hq).2
  rw [hak] at hRA
  obtain ⟨kA, comp, f1, f2, f3, f4⟩ := hRA
  obtain ⟨c0, t0, w1, w2, w3⟩ := Cond.castable_spec (va_Nw.use (A := args) rfl (x_castSelf v3))
  cases v3.symm.trans w1
  cases f3.symm.trans w2
  obtain ⟨kV, hkV, -⟩ := Vm.findClass_spec v3
  obtain ⟨kT, hkT, -⟩ := Vm.findClass_spec f3
  refine W.aast Cx.1 Cx.2.1 q1 (fun z h => by rw [h] at q3; cases q3) q2 (by rw [q5]; exact f1) f2 rfl hkT ⟨fun h => y1 (Or.inl h), by rw [z1, y2]; exact hk⟩ v1 (fun z h => by rw [h] at v2; cases v2) hkV w3 rfl rfl hd (fun H' e1 e2 e3 => ?_)
  rw [y2] at e1 ⊢
  exact kk9 H' _ (x_arrAt (q := q) (v := .ref b) ht rfl rfl rfl (by rw [hak]; simp [xval, xcR, xup, xref]) (fun i hi ty' => xval_R hi ty') (by rw [hak]; rfl) hk e1 q2 q3 q4 q5 z1 z2 z3 z4) (q4 ho).2 e2 e3
theorem SP_X1_lays {d : Nat} {g : xG} {x sh Q sg : Nat} {s9 : Nat → Int32} (hx : xtag g x = 1) (h6 : xr g x 6 = some sh) (hS : xShQ g sh Q sg s9) {b pl : Nat} (hb : 10 ≤ xtag g b ∧ xtag g b ≤ 13) (hpl : pl < 6) (hok : sg = 4 ∨ xtag g b = 10 + sg) : XM M_X1_lays d [.ref x, .int (nI pl), .ref b] g (xOne (some (.int (nI 1))) (xsetR g sh pl (some b))) := by
  obtain ⟨s1, s2, s3, s4, s5, s6⟩ := hS
  have hQ : Q < 14 ∧ 7 ≤ Q := by rw [s4]; split <;> omega
  refine xm_of (by decide +kernel) (Nat.le_of_ble_eq_true rfl) ?_
  show XW _ _ 0 [(0, _), (1, _), (2, _)] [] _ _
  refine xw_aload_n (pc := 0) dX1_lays_0 0 rfl ?_
  refine xw_getS (b := sh) (pc := 1) fd_X1_34 dX1_lays_1 (by rw [hx]; rfl) (by exact h6) ?_
  refine xw_iload_n (pc := 4) dX1_lays_4 1 rfl ?_
  refine xw_aload_n (pc := 5) dX1_lays_5 2 rfl ?_
  have k7 : XW M_X1_lays d 7 [(0, .ref x), (1, .int (nI pl)), (2, .ref b)] [] (xsetR g sh pl (some b)) (xOne (some (.int (nI 1))) (xsetR g sh pl (some b))) := by
    refine xw_iconst (v := nI 1) (pc := 7) dX1_lays_7 rfl ?_
    exact xw_iret (pc := 8) .boolean dX1_lays_8 rfl ⟨rfl, rfl⟩
  rcases hok with e | e
  · have e8 : Q = 8 := by rw [s4, if_pos e]
    subst e8
    exact xw_aast (pc := 6) (q := 8) (k := pl) dX1_lays_6 s3 (by decide) (by decide) rfl (by rw [s1]; decide) rfl (by omega) (x_castT hb.1 hb.2).1 (x_castT hb.1 hb.2).2 k7
  · by_cases e4 : sg = 4
    · omega
    · have h : sg = 0 ∨ sg = 1 ∨ sg = 2 ∨ sg = 3 := by omega
      rw [if_neg e4] at s4
      rcases h with h | h | h | h <;> subst h <;> subst s4 <;> exact xw_aastS (pc := 6) (k := pl) dX1_lays_6 s3 (by decide) (by decide) (by rw [e]; rfl) (by rw [s1]; decide) rfl (by omega) (x_castT hb.1 hb.2).1 k7
theorem SP_X1_lays_F {d : Nat} {g : xG} {x sh Q sg : Nat} {s9 : Nat → Int32} (hx : xtag g x = 1) (h6 : xr g x 6 = some sh) (hS : xShQ g sh Q sg s9) {b pl : Nat} (hb : 10 ≤ xtag g b ∧ xtag g b ≤ 13) (hpl : pl < 6) (hno : sg ≠ 4 ∧ xtag g b ≠ 10 + sg) : XM M_X1_lays (d + 7) [.ref x, .int (nI pl), .ref b] g (xOne (some (.int (nI 0))) (xAse g)) := by
  obtain ⟨s1, s2, s3, s4, s5, s6⟩ := hS
  have hQ : Q < 14 ∧ 7 ≤ Q := by rw [s4]; split <;> omega
  refine xm_of (by decide +kernel) (Nat.le_of_ble_eq_true rfl) ?_
  show XW _ _ 0 [(0, _), (1, _), (2, _)] [] _ _
  refine xw_aload_n (pc := 0) dX1_lays_0 0 rfl ?_
  refine xw_getS (b := sh) (pc := 1) fd_X1_34 dX1_lays_1 (by rw [hx]; rfl) (by exact h6) ?_
  refine xw_iload_n (pc := 4) dX1_lays_4 1 rfl ?_
  refine xw_aload_n (pc := 5) dX1_lays_5 2 rfl ?_
  have k9 : XX M_X1_lays (d + 7) 6 [(0, .ref x), (1, .int (nI pl)), (2, .ref b)] (xsz g + 2) (xAse g) (xOne (some (.int (nI 0))) (xAse g)) := by
    refine xx_catch [] (0, 8, 9, 440) [] rfl (fun z hz => by cases hz) (by decide +kernel) (by decide) q1725 (by rw [xAse_tag]; exact q1737) (by rw [xAse_tag]; decide) (by rw [xAse_tag]; decide) (by rw [xAse_own]; decide) ?_
    refine xw_astore_n (l' := [(3, _), (0, _), (1, _), (2, _)]) (pc := 9) dX1_lays_9 rfl (by decide) rfl ?_
    refine xw_iconst (v := nI 0) (pc := 10) dX1_lays_10 rfl ?_
    exact xw_iret (pc := 11) .boolean dX1_lays_11 rfl ⟨rfl, rfl⟩
  obtain ⟨e4, e⟩ := hno
  rw [if_neg e4] at s4
  have hbc := hb
  have h : sg = 0 ∨ sg = 1 ∨ sg = 2 ∨ sg = 3 := by omega
  have ht : xtag g b = 10 ∨ xtag g b = 11 ∨ xtag g b = 12 ∨ xtag g b = 13 := by omega
  rcases h with h | h | h | h <;> subst h <;> subst s4 <;> rcases ht with ht | ht | ht | ht <;> first
    | (exfalso; omega)
    | exact xw_aastX (pc := 6) (k := pl) dX1_lays_6 s3 (by decide) (by decide) rfl rfl (by omega) (x_castT hb.1 hb.2).1 (by rw [ht]; decide +kernel) (by rw [ht]; decide +kernel) (by rw [ht]; decide +kernel) (Nat.le_of_ble_eq_true rfl) k9
