/-! CLASS 1: checks, tests, whys -/
set_option maxRecDepth 100000
theorem SP_X1_isIn {d : Nat} {g : xG} {v lo hi : Int32} : XM M_X1_isIn d [.int v, .int lo, .int hi] g (xOne (some (.int (bI (inR v lo hi)))) g) := by
  refine xm_of (by decide +kernel) (Nat.le_of_ble_eq_true rfl) ?_
  show XW _ _ 0 [(0, _), (1, _), (2, _)] [] _ _
  refine xw_iload_n (pc := 0) dX1_isIn_0 0 rfl ?_
  refine xw_iload_n (pc := 1) dX1_isIn_1 1 rfl ?_
  refine xw_icmp_lt (pc := 2) 14 dX1_isIn_2 rfl (fun hb2 => ?_) (fun hb2 => ?_)
  · refine xw_iconst (v := nI 0) (pc := 14) dX1_isIn_14 rfl ?_
    refine xw_iret (pc := 15) .boolean dX1_isIn_15 rfl ?_ 
    refine ⟨congrArg (fun x => Sum.inl (some (Value.int x))) ?_, rfl⟩
    simp [inR, nI1, nI0, *]
  · refine xw_iload_n (pc := 5) dX1_isIn_5 0 rfl ?_
    refine xw_iload_n (pc := 6) dX1_isIn_6 2 rfl ?_
    refine xw_icmp_gt (pc := 7) 14 dX1_isIn_7 rfl (fun hb7 => ?_) (fun hb7 => ?_)
    · refine xw_iconst (v := nI 0) (pc := 14) dX1_isIn_14 rfl ?_
      refine xw_iret (pc := 15) .boolean dX1_isIn_15 rfl ?_ 
      refine ⟨congrArg (fun x => Sum.inl (some (Value.int x))) ?_, rfl⟩
      simp [inR, nI1, nI0, *]
    · refine xw_iconst (v := nI 1) (pc := 10) dX1_isIn_10 rfl ?_
      refine xw_goto (pc := 11) 15 dX1_isIn_11 rfl ?_
      refine xw_iret (pc := 15) .boolean dX1_isIn_15 rfl ?_ 
      refine ⟨congrArg (fun x => Sum.inl (some (Value.int x))) ?_, rfl⟩
      simp [inR, nI1, nI0, *]

theorem SP_X1_isDay {d : Nat} {g : xG} {v : Int32} : XM M_X1_isDay (d + 1) [.int v] g (xOne (some (.int (bI (inR v (nI 0) (nI 999))))) g) := by
  refine xm_of (by decide +kernel) (Nat.le_of_ble_eq_true rfl) ?_
  show XW _ _ 0 [(0, _)] [] _ _
  refine xw_iload_n (pc := 0) dX1_isDay_0 0 rfl ?_
  refine xw_iconst (v := nI 0) (pc := 1) dX1_isDay_1 rfl ?_
  refine xw_sipush (v := nI 999) (pc := 2) dX1_isDay_2 (by decide +kernel) ?_
  refine xw_callV (pc := 5) (xr_S (as := [_, _, _]) ok_X1_isIn rfl (by decide) q1180 q784 dX1_isDay_5 rfl rfl (Nat.le_of_ble_eq_true rfl)) (SP_X1_isIn) ?_
  refine xw_iret (pc := 8) .boolean dX1_isDay_8 rfl ?_ (by first | rfl | (cases ‹Bool› <;> rfl) | exact xnB _)
  exact ⟨rfl, rfl⟩

theorem SP_X1_areFeatures {d : Nat} {g : xG} {v : Int32} : XM M_X1_areFeatures (d + 1) [.int v] g (xOne (some (.int (bI (inR v (nI 0) (nI 999999))))) g) := by
  refine xm_of (by decide +kernel) (Nat.le_of_ble_eq_true rfl) ?_
  show XW _ _ 0 [(0, _)] [] _ _
  refine xw_iload_n (pc := 0) dX1_areFeatures_0 0 rfl ?_
  refine xw_iconst (v := nI 0) (pc := 1) dX1_areFeatures_1 rfl ?_
  refine xw_ldc (v := nI 999999) (pc := 2) dX1_areFeatures_2 q1519 ?_
  refine xw_callV (pc := 4) (xr_S (as := [_, _, _]) ok_X1_isIn rfl (by decide) q1180 q784 dX1_areFeatures_4 rfl rfl (Nat.le_of_ble_eq_true rfl)) (SP_X1_isIn) ?_
  refine xw_iret (pc := 7) .boolean dX1_areFeatures_7 rfl ?_ (by first | rfl | (cases ‹Bool› <;> rfl) | exact xnB _)
  exact ⟨rfl, rfl⟩

theorem SP_X1_isRank {d : Nat} {g : xG} {v : Int32} : XM M_X1_isRank (d + 1) [.int v] g (xOne (some (.int (bI (inR v (nI 0) (nI 9))))) g) := by
  refine xm_of (by decide +kernel) (Nat.le_of_ble_eq_true rfl) ?_
  show XW _ _ 0 [(0, _)] [] _ _
  refine xw_iload_n (pc := 0) dX1_isRank_0 0 rfl ?_
  refine xw_iconst (v := nI 0) (pc := 1) dX1_isRank_1 rfl ?_
  refine xw_bipush (v := nI 9) (pc := 2) dX1_isRank_2 (by decide +kernel) ?_
  refine xw_callV (pc := 4) (xr_S (as := [_, _, _]) ok_X1_isIn rfl (by decide) q1180 q784 dX1_isRank_4 rfl rfl (Nat.le_of_ble_eq_true rfl)) (SP_X1_isIn) ?_
  refine xw_iret (pc := 7) .boolean dX1_isRank_7 rfl ?_ (by first | rfl | (cases ‹Bool› <;> rfl) | exact xnB _)
  exact ⟨rfl, rfl⟩

theorem SP_X1_isRow {d : Nat} {g : xG} {v : Int32} : XM M_X1_isRow (d + 1) [.int v] g (xOne (some (.int (bI (inR v (nI 0) (nI 2))))) g) := by
  refine xm_of (by decide +kernel) (Nat.le_of_ble_eq_true rfl) ?_
  show XW _ _ 0 [(0, _)] [] _ _
  refine xw_iload_n (pc := 0) dX1_isRow_0 0 rfl ?_
  refine xw_iconst (v := nI 0) (pc := 1) dX1_isRow_1 rfl ?_
  refine xw_iconst (v := nI 2) (pc := 2) dX1_isRow_2 rfl ?_
  refine xw_callV (pc := 3) (xr_S (as := [_, _, _]) ok_X1_isIn rfl (by decide) q1180 q784 dX1_isRow_3 rfl rfl (Nat.le_of_ble_eq_true rfl)) (SP_X1_isIn) ?_
  refine xw_iret (pc := 6) .boolean dX1_isRow_6 rfl ?_ (by first | rfl | (cases ‹Bool› <;> rfl) | exact xnB _)
  exact ⟨rfl, rfl⟩

theorem SP_X1_checkIndex_T {d : Nat} {g : xG} : XM M_X1_checkIndex d [.int (bI true)] g (xOne none g) := by
  refine xm_of (by decide +kernel) (Nat.le_of_ble_eq_true rfl) ?_
  show XW _ _ 0 [(0, _)] [] _ _
  refine xw_iload_n (pc := 0) dX1_checkIndex_0 0 rfl ?_
  refine xw_if_ne (pc := 1) 12 dX1_checkIndex_1 rfl (fun _ => ?_) (fun hb => absurd hb (by decide))
  refine xw_vret (pc := 12) dX1_checkIndex_12 rfl ?_
  exact ⟨rfl, rfl⟩

theorem SP_X1_checkIndex_F {d : Nat} {g : xG} : XM M_X1_checkIndex (d + 6) [.int (bI false)] g (xThr (xsz g) (xExc g 23)) := by
  refine xm_of (by decide +kernel) (Nat.le_of_ble_eq_true rfl) ?_
  show XW _ _ 0 [(0, _)] [] _ _
  refine xw_iload_n (pc := 0) dX1_checkIndex_0 0 rfl ?_
  refine xw_if_ne (pc := 1) 12 dX1_checkIndex_1 rfl (fun hb => absurd rfl hb) (fun _ => ?_)
  exact xx_throw0 (pc := 4) 23 rfl (by decide) (by decide) rfl rfl (by decide +kernel) (by decide +kernel) q1068 q119 xt_IOOBE (by decide +kernel) dX1_checkIndex_4 dX1_checkIndex_7 dX1_checkIndex_8 dX1_checkIndex_11 (Nat.le_of_ble_eq_true rfl) ⟨rfl, rfl⟩

theorem SP_X1_check_T {d : Nat} {g : xG} : XM M_X1_check d [.int (bI true)] g (xOne none g) := by
  refine xm_of (by decide +kernel) (Nat.le_of_ble_eq_true rfl) ?_
  show XW _ _ 0 [(0, _)] [] _ _
  refine xw_iload_n (pc := 0) dX1_check_0 0 rfl ?_
  refine xw_if_ne (pc := 1) 12 dX1_check_1 rfl (fun _ => ?_) (fun hb => absurd hb (by decide))
  refine xw_vret (pc := 12) dX1_check_12 rfl ?_
  exact ⟨rfl, rfl⟩

theorem SP_X1_check_F {d : Nat} {g : xG} : XM M_X1_check (d + 6) [.int (bI false)] g (xThr (xsz g) (xExc g 22)) := by
  refine xm_of (by decide +kernel) (Nat.le_of_ble_eq_true rfl) ?_
  show XW _ _ 0 [(0, _)] [] _ _
  refine xw_iload_n (pc := 0) dX1_check_0 0 rfl ?_
  refine xw_if_ne (pc := 1) 12 dX1_check_1 rfl (fun hb => absurd rfl hb) (fun _ => ?_)
  exact xx_throw0 (pc := 4) 22 rfl (by decide) (by decide) rfl rfl (by decide +kernel) (by decide +kernel) q1184 q100 xt_IAE (by decide +kernel) dX1_check_4 dX1_check_7 dX1_check_8 dX1_check_11 (Nat.le_of_ble_eq_true rfl) ⟨rfl, rfl⟩

theorem SP_X1_checkState_T {d : Nat} {g : xG} : XM M_X1_checkState d [.int (bI true)] g (xOne none g) := by
  refine xm_of (by decide +kernel) (Nat.le_of_ble_eq_true rfl) ?_
  show XW _ _ 0 [(0, _)] [] _ _
  refine xw_iload_n (pc := 0) dX1_checkState_0 0 rfl ?_
  refine xw_if_ne (pc := 1) 12 dX1_checkState_1 rfl (fun _ => ?_) (fun hb => absurd hb (by decide))
  refine xw_vret (pc := 12) dX1_checkState_12 rfl ?_
  exact ⟨rfl, rfl⟩

theorem SP_X1_checkState_F {d : Nat} {g : xG} : XM M_X1_checkState (d + 6) [.int (bI false)] g (xThr (xsz g) (xExc g 24)) := by
  refine xm_of (by decide +kernel) (Nat.le_of_ble_eq_true rfl) ?_
  show XW _ _ 0 [(0, _)] [] _ _
  refine xw_iload_n (pc := 0) dX1_checkState_0 0 rfl ?_
  refine xw_if_ne (pc := 1) 12 dX1_checkState_1 rfl (fun hb => absurd rfl hb) (fun _ => ?_)
  exact xx_throw0 (pc := 4) 24 rfl (by decide) (by decide) rfl rfl (by decide +kernel) (by decide +kernel) q1092 q122 xt_ISE (by decide +kernel) dX1_checkState_4 dX1_checkState_7 dX1_checkState_8 dX1_checkState_11 (Nat.le_of_ble_eq_true rfl) ⟨rfl, rfl⟩

theorem SP_X1_checkElement_T {d : Nat} {g : xG} : XM M_X1_checkElement d [.int (bI true)] g (xOne none g) := by
  refine xm_of (by decide +kernel) (Nat.le_of_ble_eq_true rfl) ?_
  show XW _ _ 0 [(0, _)] [] _ _
  refine xw_iload_n (pc := 0) dX1_checkElement_0 0 rfl ?_
  refine xw_if_ne (pc := 1) 12 dX1_checkElement_1 rfl (fun _ => ?_) (fun hb => absurd hb (by decide))
  refine xw_vret (pc := 12) dX1_checkElement_12 rfl ?_
  exact ⟨rfl, rfl⟩

theorem SP_X1_checkElement_F {d : Nat} {g : xG} : XM M_X1_checkElement (d + 6) [.int (bI false)] g (xThr (xsz g) (xExc g 25)) := by
  refine xm_of (by decide +kernel) (Nat.le_of_ble_eq_true rfl) ?_
  show XW _ _ 0 [(0, _)] [] _ _
  refine xw_iload_n (pc := 0) dX1_checkElement_0 0 rfl ?_
  refine xw_if_ne (pc := 1) 12 dX1_checkElement_1 rfl (fun hb => absurd rfl hb) (fun _ => ?_)
  exact xx_throw0 (pc := 4) 25 rfl (by decide) (by decide) rfl rfl (by decide +kernel) (by decide +kernel) q1498 q126 xt_NSEE (by decide +kernel) dX1_checkElement_4 dX1_checkElement_7 dX1_checkElement_8 dX1_checkElement_11 (Nat.le_of_ble_eq_true rfl) ⟨rfl, rfl⟩

theorem SP_X12_init {d : Nat} {g : xG} {a : Nat} {f dg : Int32} (ht : xsub 91 (xtag g a) = true) (ho : xown g a ≠ 0) : XM M_X12_init (d + 1) [.ref a, .int f, .int dg] g (xOne none (xsetI (xsetI g a 0 f) a 1 dg)) := by
  refine xm_of (by decide +kernel) (Nat.le_of_ble_eq_true rfl) ?_
  show XW _ _ 0 [(0, _), (1, _), (2, _)] [] _ _
  refine xw_aload_n (pc := 0) dX12_init_0 0 rfl ?_
  refine xw_objInit (pc := 1) dX12_init_1 q1383 (Nat.le_of_ble_eq_true rfl) ?_
  refine xw_aload_n (pc := 4) dX12_init_4 0 rfl ?_
  refine xw_iload_n (pc := 5) dX12_init_5 1 rfl ?_
  refine xw_putI (pc := 6) fd_X12_7 (xfin_of (by decide) (by decide +kernel)) dX12_init_6 (by first | assumption | (simp [xE_setI, xsz_setI, xsl_setI, xtag_setI, xown_setI, xlen_setI, xE_setR, xsz_setR, xsl_setR, xtag_setR, xown_setR, xlen_setR, xE_setW, xsz_setW, xsl_setW, xtag_setW, xown_setW, xlen_setW, xi_setR, xi_setW, xr_setI, xr_setW, xww_setI, xww_setR, xi_setI, xr_setR, xww_setW, xE_new, xsz_new, xsl_new, ht, xsub]; done) | (simp [xE_setI, xsz_setI, xsl_setI, xtag_setI, xown_setI, xlen_setI, xE_setR, xsz_setR, xsl_setR, xtag_setR, xown_setR, xlen_setR, xE_setW, xsz_setW, xsl_setW, xtag_setW, xown_setW, xlen_setW, xi_setR, xi_setW, xr_setI, xr_setW, xww_setI, xww_setR, xi_setI, xr_setR, xww_setW, xE_new, xsz_new, xsl_new, ht] <;> rfl)) (by first | assumption | (simp [xE_setI, xsz_setI, xsl_setI, xtag_setI, xown_setI, xlen_setI, xE_setR, xsz_setR, xsl_setR, xtag_setR, xown_setR, xlen_setR, xE_setW, xsz_setW, xsl_setW, xtag_setW, xown_setW, xlen_setW, xi_setR, xi_setW, xr_setI, xr_setW, xww_setI, xww_setR, xi_setI, xr_setR, xww_setW, xE_new, xsz_new, xsl_new, ht]; done) | (simp [xE_setI, xsz_setI, xsl_setI, xtag_setI, xown_setI, xlen_setI, xE_setR, xsz_setR, xsl_setR, xtag_setR, xown_setR, xlen_setR, xE_setW, xsz_setW, xsl_setW, xtag_setW, xown_setW, xlen_setW, xi_setR, xi_setW, xr_setI, xr_setW, xww_setI, xww_setR, xi_setI, xr_setR, xww_setW, xE_new, xsz_new, xsl_new, ht]; assumption)) ?_
  refine xw_aload_n (pc := 9) dX12_init_9 0 rfl ?_
  refine xw_iload_n (pc := 10) dX12_init_10 2 rfl ?_
  refine xw_putI (pc := 11) fd_X12_13 (xfin_of (by decide) (by decide +kernel)) dX12_init_11 (by first | assumption | (simp [xE_setI, xsz_setI, xsl_setI, xtag_setI, xown_setI, xlen_setI, xE_setR, xsz_setR, xsl_setR, xtag_setR, xown_setR, xlen_setR, xE_setW, xsz_setW, xsl_setW, xtag_setW, xown_setW, xlen_setW, xi_setR, xi_setW, xr_setI, xr_setW, xww_setI, xww_setR, xi_setI, xr_setR, xww_setW, xE_new, xsz_new, xsl_new, ht, xsub]; done) | (simp [xE_setI, xsz_setI, xsl_setI, xtag_setI, xown_setI, xlen_setI, xE_setR, xsz_setR, xsl_setR, xtag_setR, xown_setR, xlen_setR, xE_setW, xsz_setW, xsl_setW, xtag_setW, xown_setW, xlen_setW, xi_setR, xi_setW, xr_setI, xr_setW, xww_setI, xww_setR, xi_setI, xr_setR, xww_setW, xE_new, xsz_new, xsl_new, ht] <;> rfl)) (by first | assumption | (simp [xE_setI, xsz_setI, xsl_setI, xtag_setI, xown_setI, xlen_setI, xE_setR, xsz_setR, xsl_setR, xtag_setR, xown_setR, xlen_setR, xE_setW, xsz_setW, xsl_setW, xtag_setW, xown_setW, xlen_setW, xi_setR, xi_setW, xr_setI, xr_setW, xww_setI, xww_setR, xi_setI, xr_setR, xww_setW, xE_new, xsz_new, xsl_new, ht]; done) | (simp [xE_setI, xsz_setI, xsl_setI, xtag_setI, xown_setI, xlen_setI, xE_setR, xsz_setR, xsl_setR, xtag_setR, xown_setR, xlen_setR, xE_setW, xsz_setW, xsl_setW, xtag_setW, xown_setW, xlen_setW, xi_setR, xi_setW, xr_setI, xr_setW, xww_setI, xww_setR, xi_setI, xr_setR, xww_setW, xE_new, xsz_new, xsl_new, ht]; assumption)) ?_
  refine xw_vret (pc := 14) dX12_init_14 rfl ?_
  exact ⟨rfl, rfl⟩

theorem SP_X13_init {d : Nat} {g : xG} {a : Nat} {f dg : Int32} (ht : xsub 91 (xtag g a) = true) (ho : xown g a ≠ 0) : XM M_X13_init (d + 2) [.ref a, .int f, .int dg] g (xOne none (xsetI (xsetI g a 0 f) a 1 dg)) := by
  refine xm_of (by decide +kernel) (Nat.le_of_ble_eq_true rfl) ?_
  show XW _ _ 0 [(0, _), (1, _), (2, _)] [] _ _
  refine xw_aload_n (pc := 0) dX13_init_0 0 rfl ?_
  refine xw_iload_n (pc := 1) dX13_init_1 1 rfl ?_
  refine xw_iload_n (pc := 2) dX13_init_2 2 rfl ?_
  refine xw_callU (pc := 3) (xr_I (as := [_, _]) ok_X12_init rfl (by decide) q1380 q1381 rfl rfl dX13_init_3 rfl rfl (Nat.le_of_ble_eq_true rfl)) (SP_X12_init ht ho) ?_
  refine xw_vret (pc := 6) dX13_init_6 rfl ?_
  exact ⟨rfl, rfl⟩

theorem SP_X14_init {d : Nat} {g : xG} {a : Nat} {f dg : Int32} (ht : xsub 91 (xtag g a) = true) (ho : xown g a ≠ 0) : XM M_X14_init (d + 2) [.ref a, .int f, .int dg] g (xOne none (xsetI (xsetI g a 0 f) a 1 dg)) := by
  refine xm_of (by decide +kernel) (Nat.le_of_ble_eq_true rfl) ?_
  show XW _ _ 0 [(0, _), (1, _), (2, _)] [] _ _
  refine xw_aload_n (pc := 0) dX14_init_0 0 rfl ?_
  refine xw_iload_n (pc := 1) dX14_init_1 1 rfl ?_
  refine xw_iload_n (pc := 2) dX14_init_2 2 rfl ?_
  refine xw_callU (pc := 3) (xr_I (as := [_, _]) ok_X12_init rfl (by decide) q1396 q1381 rfl rfl dX14_init_3 rfl rfl (Nat.le_of_ble_eq_true rfl)) (SP_X12_init ht ho) ?_
  refine xw_vret (pc := 6) dX14_init_6 rfl ?_
  exact ⟨rfl, rfl⟩

theorem SP_X15_init {d : Nat} {g : xG} {a : Nat} {f dg : Int32} (ht : xsub 91 (xtag g a) = true) (ho : xown g a ≠ 0) : XM M_X15_init (d + 2) [.ref a, .int f, .int dg] g (xOne none (xsetI (xsetI g a 0 f) a 1 dg)) := by
  refine xm_of (by decide +kernel) (Nat.le_of_ble_eq_true rfl) ?_
  show XW _ _ 0 [(0, _), (1, _), (2, _)] [] _ _
  refine xw_aload_n (pc := 0) dX15_init_0 0 rfl ?_
  refine xw_iload_n (pc := 1) dX15_init_1 1 rfl ?_
  refine xw_iload_n (pc := 2) dX15_init_2 2 rfl ?_
  refine xw_callU (pc := 3) (xr_I (as := [_, _]) ok_X12_init rfl (by decide) q1405 q1381 rfl rfl dX15_init_3 rfl rfl (Nat.le_of_ble_eq_true rfl)) (SP_X12_init ht ho) ?_
  refine xw_vret (pc := 6) dX15_init_6 rfl ?_
  exact ⟨rfl, rfl⟩

theorem SP_X16_init {d : Nat} {g : xG} {a : Nat} {f dg : Int32} (ht : xsub 91 (xtag g a) = true) (ho : xown g a ≠ 0) : XM M_X16_init (d + 2) [.ref a, .int f, .int dg] g (xOne none (xsetI (xsetI g a 0 f) a 1 dg)) := by
  refine xm_of (by decide +kernel) (Nat.le_of_ble_eq_true rfl) ?_
  show XW _ _ 0 [(0, _), (1, _), (2, _)] [] _ _
  refine xw_aload_n (pc := 0) dX16_init_0 0 rfl ?_
  refine xw_iload_n (pc := 1) dX16_init_1 1 rfl ?_
  refine xw_iload_n (pc := 2) dX16_init_2 2 rfl ?_
  refine xw_callU (pc := 3) (xr_I (as := [_, _]) ok_X12_init rfl (by decide) q1414 q1381 rfl rfl dX16_init_3 rfl rfl (Nat.le_of_ble_eq_true rfl)) (SP_X12_init ht ho) ?_
  refine xw_vret (pc := 6) dX16_init_6 rfl ?_
  exact ⟨rfl, rfl⟩

theorem SP_X12_feature {d : Nat} {g : xG} {a : Nat} (ht : xsub 91 (xtag g a) = true) : XM M_X12_feature d [.ref a] g (xOne (some (.int (xi g a 0))) g) := by
  refine xm_of (by decide +kernel) (Nat.le_of_ble_eq_true rfl) ?_
  show XW _ _ 0 [(0, _)] [] _ _
  refine xw_aload_n (pc := 0) dX12_feature_0 0 rfl ?_
  refine xw_getI (pc := 1) fd_X12_7 dX12_feature_1 (by first | assumption | (simp [xE_setI, xsz_setI, xsl_setI, xtag_setI, xown_setI, xlen_setI, xE_setR, xsz_setR, xsl_setR, xtag_setR, xown_setR, xlen_setR, xE_setW, xsz_setW, xsl_setW, xtag_setW, xown_setW, xlen_setW, xi_setR, xi_setW, xr_setI, xr_setW, xww_setI, xww_setR, xi_setI, xr_setR, xww_setW, xE_new, xsz_new, xsl_new, ht, xsub]; done) | (simp [xE_setI, xsz_setI, xsl_setI, xtag_setI, xown_setI, xlen_setI, xE_setR, xsz_setR, xsl_setR, xtag_setR, xown_setR, xlen_setR, xE_setW, xsz_setW, xsl_setW, xtag_setW, xown_setW, xlen_setW, xi_setR, xi_setW, xr_setI, xr_setW, xww_setI, xww_setR, xi_setI, xr_setR, xww_setW, xE_new, xsz_new, xsl_new, ht] <;> rfl)) ?_
  refine xw_iret (pc := 4) .int dX12_feature_4 rfl ?_ 
  exact ⟨rfl, rfl⟩

theorem SP_X12_digit {d : Nat} {g : xG} {a : Nat} (ht : xsub 91 (xtag g a) = true) : XM M_X12_digit d [.ref a] g (xOne (some (.int (xi g a 1))) g) := by
  refine xm_of (by decide +kernel) (Nat.le_of_ble_eq_true rfl) ?_
  show XW _ _ 0 [(0, _)] [] _ _
  refine xw_aload_n (pc := 0) dX12_digit_0 0 rfl ?_
  refine xw_getI (pc := 1) fd_X12_13 dX12_digit_1 (by first | assumption | (simp [xE_setI, xsz_setI, xsl_setI, xtag_setI, xown_setI, xlen_setI, xE_setR, xsz_setR, xsl_setR, xtag_setR, xown_setR, xlen_setR, xE_setW, xsz_setW, xsl_setW, xtag_setW, xown_setW, xlen_setW, xi_setR, xi_setW, xr_setI, xr_setW, xww_setI, xww_setR, xi_setI, xr_setR, xww_setW, xE_new, xsz_new, xsl_new, ht, xsub]; done) | (simp [xE_setI, xsz_setI, xsl_setI, xtag_setI, xown_setI, xlen_setI, xE_setR, xsz_setR, xsl_setR, xtag_setR, xown_setR, xlen_setR, xE_setW, xsz_setW, xsl_setW, xtag_setW, xown_setW, xlen_setW, xi_setR, xi_setW, xr_setI, xr_setW, xww_setI, xww_setR, xi_setI, xr_setR, xww_setW, xE_new, xsz_new, xsl_new, ht] <;> rfl)) ?_
  refine xw_iret (pc := 4) .int dX12_digit_4 rfl ?_ 
  exact ⟨rfl, rfl⟩

