/-! CLASS 49: text and explanation -/
set_option maxRecDepth 100000
theorem SP_X1_append_F {d : Nat} {g : xG} {c : Int32} {x tb n : Nat} {ch : Nat → Nat} (hx : xtag g x = 1) (h8 : xr g x 8 = some tb) (hB : xBd g 11 tb n ch) (hn : n ≤ 60) (h6 : ¬ n < 60) : XM M_X1_append (d + 80) [.ref x, .int c] g (xThr (xsz g) (xExc g 24)) := by
  refine xm_of (by decide +kernel) (Nat.le_of_ble_eq_true rfl) ?_
  show XW _ _ 0 [(0, _), (1, _)] [] _ _
  refine xw_aload_n (pc := 0) dX1_append_0 0 rfl ?_
  refine xw_getS (b := tb) (pc := 1) fd_X1_47 dX1_append_1 (by first | assumption | (simp [-List.getD_eq_getElem?_getD, xE_setI, xsz_setI, xsl_setI, xtag_setI, xown_setI, xlen_setI, xE_setR, xsz_setR, xsl_setR, xtag_setR, xown_setR, xlen_setR, xE_setW, xsz_setW, xsl_setW, xtag_setW, xown_setW, xlen_setW, xi_setR, xi_setW, xr_setI, xr_setW, xww_setI, xww_setR, xi_setI, xr_setR, xww_setW, xE_new, xsz_new, xsl_new, hx, h8, xsub]; done) | (simp [-List.getD_eq_getElem?_getD, xE_setI, xsz_setI, xsl_setI, xtag_setI, xown_setI, xlen_setI, xE_setR, xsz_setR, xsl_setR, xtag_setR, xown_setR, xlen_setR, xE_setW, xsz_setW, xsl_setW, xtag_setW, xown_setW, xlen_setW, xi_setR, xi_setW, xr_setI, xr_setW, xww_setI, xww_setR, xi_setI, xr_setR, xww_setW, xE_new, xsz_new, xsl_new, hx, h8] <;> rfl)) (by simp [-List.getD_eq_getElem?_getD, xE_setI, xsz_setI, xsl_setI, xtag_setI, xown_setI, xlen_setI, xE_setR, xsz_setR, xsl_setR, xtag_setR, xown_setR, xlen_setR, xE_setW, xsz_setW, xsl_setW, xtag_setW, xown_setW, xlen_setW, xi_setR, xi_setW, xr_setI, xr_setW, xww_setI, xww_setR, xi_setI, xr_setR, xww_setW, xE_new, xsz_new, xsl_new, hx, h8]) ?_
  refine xw_callV (pc := 4) (xr_V (as := []) ok_J8_length rfl (by decide) q1809 q421 q2779 (by first | (rw [hB.tag]; rfl) | (rw [hc25.1.tag]; rfl)) (by first | (rw [hB.tag]; rfl) | (rw [hc25.1.tag]; rfl)) dX1_append_4 rfl rfl (Nat.le_of_ble_eq_true rfl)) (SP_J8_len hB) ?_
  refine xw_bipush (v := nI 60) (pc := 7) dX1_append_7 (by decide +kernel) ?_
  refine xw_icmp_ge (pc := 9) 16 dX1_append_9 rfl (fun hb9 => ?_) (fun hb9 => ?_)
  rotate_left
  · exfalso
    replace hb9 : ¬ (60 ≤ n) := mt (nI_leI (a := 60) (b := n) (by omega) (by omega)).mpr hb9
    omega
  replace hb9 : 60 ≤ n := (nI_leI (a := 60) (b := n) (by omega) (by omega)).mp hb9
  refine xw_iconst (v := nI 0) (pc := 16) dX1_append_16 rfl ?_
  refine xw_callX (pc := 17) (xr_S (as := [_]) ok_X1_checkState rfl (by decide) q1089 q1090 dX1_append_17 rfl rfl (Nat.le_of_ble_eq_true rfl)) (SP_X1_checkState_F) ?_
  exact xx_out0 rfl (by rw [xExc_tag]; decide) (by rw [xExc_tag]; decide) (by rw [xExc_own]; decide) ⟨rfl, rfl⟩

theorem SP_X1_append {d : Nat} {g : xG} {c : Nat} {x tb n : Nat} {ch : Nat → Nat} (hx : xtag g x = 1) (h8 : xr g x 8 = some tb) (hB : xBd g 11 tb n ch) (hn : n ≤ 60) (hxo : xown g x = 1) (h6 : n < 60) (hc : c < 65536) : XM M_X1_append (d + 80) [.ref x, .int (nI c)] g (xVal (.int (nI (n + 1))) (fun g' => xBd g' 11 tb (n + 1) (chS ch n c) ∧ xFr (oEq 11) 3400 g g')) := by
  have hxl : x < xsz g := xlt (by rw [hx]; decide)
  have nx : ¬ oEq 11 (xown g x) := by rw [hxo]; unfold oEq; omega
  refine xm_of (by decide +kernel) (Nat.le_of_ble_eq_true rfl) ?_
  show XW _ _ 0 [(0, _), (1, _)] [] _ _
  refine xw_aload_n (pc := 0) dX1_append_0 0 rfl ?_
  refine xw_getS (b := tb) (pc := 1) fd_X1_47 dX1_append_1 (by first | assumption | (simp [-List.getD_eq_getElem?_getD, xE_setI, xsz_setI, xsl_setI, xtag_setI, xown_setI, xlen_setI, xE_setR, xsz_setR, xsl_setR, xtag_setR, xown_setR, xlen_setR, xE_setW, xsz_setW, xsl_setW, xtag_setW, xown_setW, xlen_setW, xi_setR, xi_setW, xr_setI, xr_setW, xww_setI, xww_setR, xi_setI, xr_setR, xww_setW, xE_new, xsz_new, xsl_new, hx, h8, xsub]; done) | (simp [-List.getD_eq_getElem?_getD, xE_setI, xsz_setI, xsl_setI, xtag_setI, xown_setI, xlen_setI, xE_setR, xsz_setR, xsl_setR, xtag_setR, xown_setR, xlen_setR, xE_setW, xsz_setW, xsl_setW, xtag_setW, xown_setW, xlen_setW, xi_setR, xi_setW, xr_setI, xr_setW, xww_setI, xww_setR, xi_setI, xr_setR, xww_setW, xE_new, xsz_new, xsl_new, hx, h8] <;> rfl)) (by simp [-List.getD_eq_getElem?_getD, xE_setI, xsz_setI, xsl_setI, xtag_setI, xown_setI, xlen_setI, xE_setR, xsz_setR, xsl_setR, xtag_setR, xown_setR, xlen_setR, xE_setW, xsz_setW, xsl_setW, xtag_setW, xown_setW, xlen_setW, xi_setR, xi_setW, xr_setI, xr_setW, xww_setI, xww_setR, xi_setI, xr_setR, xww_setW, xE_new, xsz_new, xsl_new, hx, h8]) ?_
  refine xw_callV (pc := 4) (xr_V (as := []) ok_J8_length rfl (by decide) q1809 q421 q2779 (by first | (rw [hB.tag]; rfl) | (rw [hc25.1.tag]; rfl)) (by first | (rw [hB.tag]; rfl) | (rw [hc25.1.tag]; rfl)) dX1_append_4 rfl rfl (Nat.le_of_ble_eq_true rfl)) (SP_J8_len hB) ?_
  refine xw_bipush (v := nI 60) (pc := 7) dX1_append_7 (by decide +kernel) ?_
  refine xw_icmp_ge (pc := 9) 16 dX1_append_9 rfl (fun hb9 => ?_) (fun hb9 => ?_)
  · exfalso
    replace hb9 : 60 ≤ n := (nI_leI (a := 60) (b := n) (by omega) (by omega)).mp hb9
    omega
  replace hb9 : ¬ (60 ≤ n) := mt (nI_leI (a := 60) (b := n) (by omega) (by omega)).mpr hb9
  refine xw_iconst (v := nI 1) (pc := 12) dX1_append_12 rfl ?_
  refine xw_goto (pc := 13) 17 dX1_append_13 rfl ?_
  refine xw_callU (pc := 17) (xr_S (as := [_]) ok_X1_checkState rfl (by decide) q1089 q1090 dX1_append_17 rfl rfl (Nat.le_of_ble_eq_true rfl)) (SP_X1_checkState_T) ?_
  refine xw_aload_n (pc := 20) dX1_append_20 0 rfl ?_
  refine xw_getS (b := tb) (pc := 21) fd_X1_47 dX1_append_21 (by first | assumption | (simp [-List.getD_eq_getElem?_getD, xE_setI, xsz_setI, xsl_setI, xtag_setI, xown_setI, xlen_setI, xE_setR, xsz_setR, xsl_setR, xtag_setR, xown_setR, xlen_setR, xE_setW, xsz_setW, xsl_setW, xtag_setW, xown_setW, xlen_setW, xi_setR, xi_setW, xr_setI, xr_setW, xww_setI, xww_setR, xi_setI, xr_setR, xww_setW, xE_new, xsz_new, xsl_new, hx, h8, xsub]; done) | (simp [-List.getD_eq_getElem?_getD, xE_setI, xsz_setI, xsl_setI, xtag_setI, xown_setI, xlen_setI, xE_setR, xsz_setR, xsl_setR, xtag_setR, xown_setR, xlen_setR, xE_setW, xsz_setW, xsl_setW, xtag_setW, xown_setW, xlen_setW, xi_setR, xi_setW, xr_setI, xr_setW, xww_setI, xww_setR, xi_setI, xr_setR, xww_setW, xE_new, xsz_new, xsl_new, hx, h8] <;> rfl)) (by simp [-List.getD_eq_getElem?_getD, xE_setI, xsz_setI, xsl_setI, xtag_setI, xown_setI, xlen_setI, xE_setR, xsz_setR, xsl_setR, xtag_setR, xown_setR, xlen_setR, xE_setW, xsz_setW, xsl_setW, xtag_setW, xown_setW, xlen_setW, xi_setR, xi_setW, xr_setI, xr_setW, xww_setI, xww_setR, xi_setI, xr_setR, xww_setW, xE_new, xsz_new, xsl_new, hx, h8]) ?_
  refine xw_iload_n (pc := 24) dX1_append_24 1 rfl ?_
  refine xw_callF (pc := 25) (xr_V (as := [_]) ok_J8_append_3 rfl (by decide) q1810 q1811 q1812 (by first | (rw [hB.tag]; rfl) | (rw [hc25.1.tag]; rfl)) (by first | (rw [hB.tag]; rfl) | (rw [hc25.1.tag]; rfl)) dX1_append_25 rfl rfl (Nat.le_of_ble_eq_true rfl)) (SP_J8_append_3 hB (by decide) hc (by omega)) ?_
  intro g25 hc25 hm25
  have tx25 : xtag g25 x = 1 := (hc25.2.tag hxl).trans hx
  have r825 : xr g25 x 8 = some tb := (hc25.2.r' hxl nx).trans h8
  refine xw_pop (pc := 28) dX1_append_28 rfl ?_
  refine xw_aload_n (pc := 29) dX1_append_29 0 rfl ?_
  refine xw_getS (b := tb) (pc := 30) fd_X1_47 dX1_append_30 (by first | assumption | (simp [-List.getD_eq_getElem?_getD, xE_setI, xsz_setI, xsl_setI, xtag_setI, xown_setI, xlen_setI, xE_setR, xsz_setR, xsl_setR, xtag_setR, xown_setR, xlen_setR, xE_setW, xsz_setW, xsl_setW, xtag_setW, xown_setW, xlen_setW, xi_setR, xi_setW, xr_setI, xr_setW, xww_setI, xww_setR, xi_setI, xr_setR, xww_setW, xE_new, xsz_new, xsl_new, hx, h8, tx25, r825, xsub]; done) | (simp [-List.getD_eq_getElem?_getD, xE_setI, xsz_setI, xsl_setI, xtag_setI, xown_setI, xlen_setI, xE_setR, xsz_setR, xsl_setR, xtag_setR, xown_setR, xlen_setR, xE_setW, xsz_setW, xsl_setW, xtag_setW, xown_setW, xlen_setW, xi_setR, xi_setW, xr_setI, xr_setW, xww_setI, xww_setR, xi_setI, xr_setR, xww_setW, xE_new, xsz_new, xsl_new, hx, h8, tx25, r825] <;> rfl)) (by simp [-List.getD_eq_getElem?_getD, xE_setI, xsz_setI, xsl_setI, xtag_setI, xown_setI, xlen_setI, xE_setR, xsz_setR, xsl_setR, xtag_setR, xown_setR, xlen_setR, xE_setW, xsz_setW, xsl_setW, xtag_setW, xown_setW, xlen_setW, xi_setR, xi_setW, xr_setI, xr_setW, xww_setI, xww_setR, xi_setI, xr_setR, xww_setW, xE_new, xsz_new, xsl_new, hx, h8, tx25, r825]) ?_
  refine xw_callV (pc := 33) (xr_V (as := []) ok_J8_length rfl (by decide) q1809 q421 q2779 (by first | (rw [hB.tag]; rfl) | (rw [hc25.1.tag]; rfl)) (by first | (rw [hB.tag]; rfl) | (rw [hc25.1.tag]; rfl)) dX1_append_33 rfl rfl (Nat.le_of_ble_eq_true rfl)) (SP_J8_len hc25.1) ?_
  refine xw_iret (pc := 36) .int dX1_append_36 rfl ?_ 
  exact ⟨rfl, hc25⟩

theorem SP_X1_character_F {d : Nat} {g : xG} {v : Int32} {x eb n : Nat} {ch : Nat → Nat} (hx : xtag g x = 1) (h10 : xr g x 10 = some eb) (hB : xBd g 12 eb n ch) (hn : n ≤ 1000) (hv : ¬ inR v (nI 0) (nI n - nI 1) = true) : XM M_X1_character (d + 80) [.ref x, .int v] g (xThr (xsz g) (xExc g 25)) := by
  refine xm_of (by decide +kernel) (Nat.le_of_ble_eq_true rfl) ?_
  show XW _ _ 0 [(0, _), (1, _)] [] _ _
  refine xw_iload_n (pc := 0) dX1_character_0 1 rfl ?_
  refine xw_iconst (v := nI 0) (pc := 1) dX1_character_1 rfl ?_
  refine xw_aload_n (pc := 2) dX1_character_2 0 rfl ?_
  refine xw_getS (b := eb) (pc := 3) fd_X1_55 dX1_character_3 (by first | assumption | (simp [-List.getD_eq_getElem?_getD, xE_setI, xsz_setI, xsl_setI, xtag_setI, xown_setI, xlen_setI, xE_setR, xsz_setR, xsl_setR, xtag_setR, xown_setR, xlen_setR, xE_setW, xsz_setW, xsl_setW, xtag_setW, xown_setW, xlen_setW, xi_setR, xi_setW, xr_setI, xr_setW, xww_setI, xww_setR, xi_setI, xr_setR, xww_setW, xE_new, xsz_new, xsl_new, hx, h10, xsub]; done) | (simp [-List.getD_eq_getElem?_getD, xE_setI, xsz_setI, xsl_setI, xtag_setI, xown_setI, xlen_setI, xE_setR, xsz_setR, xsl_setR, xtag_setR, xown_setR, xlen_setR, xE_setW, xsz_setW, xsl_setW, xtag_setW, xown_setW, xlen_setW, xi_setR, xi_setW, xr_setI, xr_setW, xww_setI, xww_setR, xi_setI, xr_setR, xww_setW, xE_new, xsz_new, xsl_new, hx, h10] <;> rfl)) (by simp [-List.getD_eq_getElem?_getD, xE_setI, xsz_setI, xsl_setI, xtag_setI, xown_setI, xlen_setI, xE_setR, xsz_setR, xsl_setR, xtag_setR, xown_setR, xlen_setR, xE_setW, xsz_setW, xsl_setW, xtag_setW, xown_setW, xlen_setW, xi_setR, xi_setW, xr_setI, xr_setW, xww_setI, xww_setR, xi_setI, xr_setR, xww_setW, xE_new, xsz_new, xsl_new, hx, h10]) ?_
  refine xw_callV (pc := 6) (xr_V (as := []) ok_J8_length rfl (by decide) q1809 q421 q2779 (by rw [hB.tag]; rfl) (by rw [hB.tag]; rfl) dX1_character_6 rfl rfl (Nat.le_of_ble_eq_true rfl)) (SP_J8_len hB) ?_
  refine xw_iconst (v := nI 1) (pc := 9) dX1_character_9 rfl ?_
  refine xw_isub (pc := 10) dX1_character_10 ?_
  refine xw_callV (pc := 11) (xr_S (as := [_, _, _]) ok_X1_isIn rfl (by decide) q1180 q784 dX1_character_11 rfl rfl (Nat.le_of_ble_eq_true rfl)) (SP_X1_isInF hv) ?_
  refine xw_callX (pc := 14) (xr_S (as := [_]) ok_X1_checkElement rfl (by decide) q1495 q1496 dX1_character_14 rfl rfl (Nat.le_of_ble_eq_true rfl)) (SP_X1_checkElement_F) ?_
  exact xx_out0 rfl (by rw [xExc_tag]; decide) (by rw [xExc_tag]; decide) (by rw [xExc_own]; decide) ⟨rfl, rfl⟩

theorem SP_X1_character {d : Nat} {g : xG} {k : Nat} {x eb n : Nat} {ch : Nat → Nat} (hx : xtag g x = 1) (h10 : xr g x 10 = some eb) (hB : xBd g 12 eb n ch) (hn : n ≤ 1000) (hk : k < n) : XM M_X1_character (d + 80) [.ref x, .int (nI k)] g (xOne (some (.int (nI (ch k)))) g) := by
  refine xm_of (by decide +kernel) (Nat.le_of_ble_eq_true rfl) ?_
  show XW _ _ 0 [(0, _), (1, _)] [] _ _
  refine xw_iload_n (pc := 0) dX1_character_0 1 rfl ?_
  refine xw_iconst (v := nI 0) (pc := 1) dX1_character_1 rfl ?_
  refine xw_aload_n (pc := 2) dX1_character_2 0 rfl ?_
  refine xw_getS (b := eb) (pc := 3) fd_X1_55 dX1_character_3 (by first | assumption | (simp [-List.getD_eq_getElem?_getD, xE_setI, xsz_setI, xsl_setI, xtag_setI, xown_setI, xlen_setI, xE_setR, xsz_setR, xsl_setR, xtag_setR, xown_setR, xlen_setR, xE_setW, xsz_setW, xsl_setW, xtag_setW, xown_setW, xlen_setW, xi_setR, xi_setW, xr_setI, xr_setW, xww_setI, xww_setR, xi_setI, xr_setR, xww_setW, xE_new, xsz_new, xsl_new, hx, h10, xsub]; done) | (simp [-List.getD_eq_getElem?_getD, xE_setI, xsz_setI, xsl_setI, xtag_setI, xown_setI, xlen_setI, xE_setR, xsz_setR, xsl_setR, xtag_setR, xown_setR, xlen_setR, xE_setW, xsz_setW, xsl_setW, xtag_setW, xown_setW, xlen_setW, xi_setR, xi_setW, xr_setI, xr_setW, xww_setI, xww_setR, xi_setI, xr_setR, xww_setW, xE_new, xsz_new, xsl_new, hx, h10] <;> rfl)) (by simp [-List.getD_eq_getElem?_getD, xE_setI, xsz_setI, xsl_setI, xtag_setI, xown_setI, xlen_setI, xE_setR, xsz_setR, xsl_setR, xtag_setR, xown_setR, xlen_setR, xE_setW, xsz_setW, xsl_setW, xtag_setW, xown_setW, xlen_setW, xi_setR, xi_setW, xr_setI, xr_setW, xww_setI, xww_setR, xi_setI, xr_setR, xww_setW, xE_new, xsz_new, xsl_new, hx, h10]) ?_
  refine xw_callV (pc := 6) (xr_V (as := []) ok_J8_length rfl (by decide) q1809 q421 q2779 (by rw [hB.tag]; rfl) (by rw [hB.tag]; rfl) dX1_character_6 rfl rfl (Nat.le_of_ble_eq_true rfl)) (SP_J8_len hB) ?_
  refine xw_iconst (v := nI 1) (pc := 9) dX1_character_9 rfl ?_
  refine xw_isub (pc := 10) dX1_character_10 ?_
  refine xw_callV (pc := 11) (xr_S (as := [_, _, _]) ok_X1_isIn rfl (by decide) q1180 q784 dX1_character_11 rfl rfl (Nat.le_of_ble_eq_true rfl)) (SP_X1_isInT (inR_k (by omega) hk)) ?_
  refine xw_callU (pc := 14) (xr_S (as := [_]) ok_X1_checkElement rfl (by decide) q1495 q1496 dX1_character_14 rfl rfl (Nat.le_of_ble_eq_true rfl)) (SP_X1_checkElement_T) ?_
  refine xw_aload_n (pc := 17) dX1_character_17 0 rfl ?_
  refine xw_getS (b := eb) (pc := 18) fd_X1_55 dX1_character_18 (by first | assumption | (simp [-List.getD_eq_getElem?_getD, xE_setI, xsz_setI, xsl_setI, xtag_setI, xown_setI, xlen_setI, xE_setR, xsz_setR, xsl_setR, xtag_setR, xown_setR, xlen_setR, xE_setW, xsz_setW, xsl_setW, xtag_setW, xown_setW, xlen_setW, xi_setR, xi_setW, xr_setI, xr_setW, xww_setI, xww_setR, xi_setI, xr_setR, xww_setW, xE_new, xsz_new, xsl_new, hx, h10, xsub]; done) | (simp [-List.getD_eq_getElem?_getD, xE_setI, xsz_setI, xsl_setI, xtag_setI, xown_setI, xlen_setI, xE_setR, xsz_setR, xsl_setR, xtag_setR, xown_setR, xlen_setR, xE_setW, xsz_setW, xsl_setW, xtag_setW, xown_setW, xlen_setW, xi_setR, xi_setW, xr_setI, xr_setW, xww_setI, xww_setR, xi_setI, xr_setR, xww_setW, xE_new, xsz_new, xsl_new, hx, h10] <;> rfl)) (by simp [-List.getD_eq_getElem?_getD, xE_setI, xsz_setI, xsl_setI, xtag_setI, xown_setI, xlen_setI, xE_setR, xsz_setR, xsl_setR, xtag_setR, xown_setR, xlen_setR, xE_setW, xsz_setW, xsl_setW, xtag_setW, xown_setW, xlen_setW, xi_setR, xi_setW, xr_setI, xr_setW, xww_setI, xww_setR, xi_setI, xr_setR, xww_setW, xE_new, xsz_new, xsl_new, hx, h10]) ?_
  refine xw_iload_n (pc := 21) dX1_character_21 1 rfl ?_
  refine xw_callV (pc := 22) (xr_V (as := [_]) ok_J8_charAt rfl (by decide) q2173 q1946 q2783 (by rw [hB.tag]; rfl) (by rw [hB.tag]; rfl) dX1_character_22 rfl rfl (Nat.le_of_ble_eq_true rfl)) (SP_J8_charAt hB hk) ?_
  refine xw_iret (pc := 25) .char dX1_character_25 rfl ?_ (by exact nI_chr (hB.chr hk))
  exact ⟨rfl, rfl⟩

theorem SP_X1_account9 {d : Nat} {g : xG} {x tb n : Nat} {ch : Nat → Nat} (hx : xtag g x = 1) (h8 : xr g x 8 = some tb) (hB : xBd g 11 tb n ch) (hn : n ≤ 60) : XM M_X1_account (d + 80) [.ref x, .int (nI 9)] g (xOne (some (.int (nI n))) g) := by
  refine xm_of (by decide +kernel) (Nat.le_of_ble_eq_true rfl) ?_
  show XW _ _ 0 [(0, _), (1, _)] [] _ _
  refine xw_iload_n (pc := 0) dX1_account_0 1 rfl ?_
  refine xw_iconst (v := nI 0) (pc := 1) dX1_account_1 rfl ?_
  refine xw_bipush (v := nI 10) (pc := 2) dX1_account_2 (by decide +kernel) ?_
  refine xw_callV (pc := 4) (xr_S (as := [_, _, _]) ok_X1_isIn rfl (by decide) q1180 q784 dX1_account_4 rfl rfl (Nat.le_of_ble_eq_true rfl)) (SP_X1_isInT (by decide)) ?_
  refine xw_callU (pc := 7) (xr_S (as := [_]) ok_X1_check rfl (by decide) q1181 q1182 dX1_account_7 rfl rfl (Nat.le_of_ble_eq_true rfl)) (SP_X1_check_T) ?_
  refine xw_iload_n (pc := 10) dX1_account_10 1 rfl ?_
  refine xw_tableIn (x := nI 9) (pc := 11) 167 dX1_account_11 (by decide) (by decide) rfl rfl ?_
  refine xw_aload_n (pc := 167) dX1_account_167 0 rfl ?_
  refine xw_getS (b := tb) (pc := 168) fd_X1_47 dX1_account_168 (by first | assumption | (simp [-List.getD_eq_getElem?_getD, xE_setI, xsz_setI, xsl_setI, xtag_setI, xown_setI, xlen_setI, xE_setR, xsz_setR, xsl_setR, xtag_setR, xown_setR, xlen_setR, xE_setW, xsz_setW, xsl_setW, xtag_setW, xown_setW, xlen_setW, xi_setR, xi_setW, xr_setI, xr_setW, xww_setI, xww_setR, xi_setI, xr_setR, xww_setW, xE_new, xsz_new, xsl_new, hx, h8, xsub]; done) | (simp [-List.getD_eq_getElem?_getD, xE_setI, xsz_setI, xsl_setI, xtag_setI, xown_setI, xlen_setI, xE_setR, xsz_setR, xsl_setR, xtag_setR, xown_setR, xlen_setR, xE_setW, xsz_setW, xsl_setW, xtag_setW, xown_setW, xlen_setW, xi_setR, xi_setW, xr_setI, xr_setW, xww_setI, xww_setR, xi_setI, xr_setR, xww_setW, xE_new, xsz_new, xsl_new, hx, h8] <;> rfl)) (by simp [-List.getD_eq_getElem?_getD, xE_setI, xsz_setI, xsl_setI, xtag_setI, xown_setI, xlen_setI, xE_setR, xsz_setR, xsl_setR, xtag_setR, xown_setR, xlen_setR, xE_setW, xsz_setW, xsl_setW, xtag_setW, xown_setW, xlen_setW, xi_setR, xi_setW, xr_setI, xr_setW, xww_setI, xww_setR, xi_setI, xr_setR, xww_setW, xE_new, xsz_new, xsl_new, hx, h8]) ?_
  refine xw_callV (pc := 171) (xr_V (as := []) ok_J8_length rfl (by decide) q1809 q421 q2779 (by first | (rw [hB.tag]; rfl) | (rw [hc25.1.tag]; rfl)) (by first | (rw [hB.tag]; rfl) | (rw [hc25.1.tag]; rfl)) dX1_account_171 rfl rfl (Nat.le_of_ble_eq_true rfl)) (SP_J8_len hB) ?_
  refine xw_goto (pc := 174) 184 dX1_account_174 rfl ?_
  refine xw_iret (pc := 184) .int dX1_account_184 rfl ?_ 
  exact ⟨rfl, rfl⟩

