/-! CLASS 8: which exception goes ahead; forgetting -/
set_option maxRecDepth 100000
def ahd (g : xG) (a b : Nat) : Bool := if xi g a 2 = xi g b 2 then decide (xi g a 0 < xi g b 0) else decide (xi g b 2 < xi g a 2)
theorem SP_X7_isAhead {d : Nat} {g : xG} {a b : Nat} (h1 : xsub 90 (xtag g a) = true) (h2 : xsub 90 (xtag g b) = true) : XM M_X7_isAhead d [.ref a, .ref b] g (xOne (some (.int (bI (ahd g a b)))) g) := by
  refine xm_of (by decide +kernel) (Nat.le_of_ble_eq_true rfl) ?_
  show XW _ _ 0 [(0, _), (1, _)] [] _ _
  refine xw_aload_n (pc := 0) dX7_isAhead_0 0 rfl ?_
  refine xw_getI (pc := 1) fd_X7_30 dX7_isAhead_1 (by first | assumption | (simp [xE_setI, xsz_setI, xsl_setI, xtag_setI, xown_setI, xlen_setI, xE_setR, xsz_setR, xsl_setR, xtag_setR, xown_setR, xlen_setR, xE_setW, xsz_setW, xsl_setW, xtag_setW, xown_setW, xlen_setW, xi_setR, xi_setW, xr_setI, xr_setW, xww_setI, xww_setR, xi_setI, xr_setR, xww_setW, xE_new, xsz_new, xsl_new, h1, h2, xsub]; done) | (simp [xE_setI, xsz_setI, xsl_setI, xtag_setI, xown_setI, xlen_setI, xE_setR, xsz_setR, xsl_setR, xtag_setR, xown_setR, xlen_setR, xE_setW, xsz_setW, xsl_setW, xtag_setW, xown_setW, xlen_setW, xi_setR, xi_setW, xr_setI, xr_setW, xww_setI, xww_setR, xi_setI, xr_setR, xww_setW, xE_new, xsz_new, xsl_new, h1, h2] <;> rfl)) ?_
  refine xw_aload_n (pc := 4) dX7_isAhead_4 1 rfl ?_
  refine xw_getI (pc := 5) fd_X7_30 dX7_isAhead_5 (by first | assumption | (simp [xE_setI, xsz_setI, xsl_setI, xtag_setI, xown_setI, xlen_setI, xE_setR, xsz_setR, xsl_setR, xtag_setR, xown_setR, xlen_setR, xE_setW, xsz_setW, xsl_setW, xtag_setW, xown_setW, xlen_setW, xi_setR, xi_setW, xr_setI, xr_setW, xww_setI, xww_setR, xi_setI, xr_setR, xww_setW, xE_new, xsz_new, xsl_new, h1, h2, xsub]; done) | (simp [xE_setI, xsz_setI, xsl_setI, xtag_setI, xown_setI, xlen_setI, xE_setR, xsz_setR, xsl_setR, xtag_setR, xown_setR, xlen_setR, xE_setW, xsz_setW, xsl_setW, xtag_setW, xown_setW, xlen_setW, xi_setR, xi_setW, xr_setI, xr_setW, xww_setI, xww_setR, xi_setI, xr_setR, xww_setW, xE_new, xsz_new, xsl_new, h1, h2] <;> rfl)) ?_
  refine xw_icmp_eq (pc := 8) 30 dX7_isAhead_8 rfl (fun hb8 => ?_) (fun hb8 => ?_)
  · refine xw_aload_n (pc := 30) dX7_isAhead_30 0 rfl ?_
    refine xw_getI (pc := 31) fd_X7_24 dX7_isAhead_31 (by first | assumption | (simp [xE_setI, xsz_setI, xsl_setI, xtag_setI, xown_setI, xlen_setI, xE_setR, xsz_setR, xsl_setR, xtag_setR, xown_setR, xlen_setR, xE_setW, xsz_setW, xsl_setW, xtag_setW, xown_setW, xlen_setW, xi_setR, xi_setW, xr_setI, xr_setW, xww_setI, xww_setR, xi_setI, xr_setR, xww_setW, xE_new, xsz_new, xsl_new, h1, h2, xsub]; done) | (simp [xE_setI, xsz_setI, xsl_setI, xtag_setI, xown_setI, xlen_setI, xE_setR, xsz_setR, xsl_setR, xtag_setR, xown_setR, xlen_setR, xE_setW, xsz_setW, xsl_setW, xtag_setW, xown_setW, xlen_setW, xi_setR, xi_setW, xr_setI, xr_setW, xww_setI, xww_setR, xi_setI, xr_setR, xww_setW, xE_new, xsz_new, xsl_new, h1, h2] <;> rfl)) ?_
    refine xw_aload_n (pc := 34) dX7_isAhead_34 1 rfl ?_
    refine xw_getI (pc := 35) fd_X7_24 dX7_isAhead_35 (by first | assumption | (simp [xE_setI, xsz_setI, xsl_setI, xtag_setI, xown_setI, xlen_setI, xE_setR, xsz_setR, xsl_setR, xtag_setR, xown_setR, xlen_setR, xE_setW, xsz_setW, xsl_setW, xtag_setW, xown_setW, xlen_setW, xi_setR, xi_setW, xr_setI, xr_setW, xww_setI, xww_setR, xi_setI, xr_setR, xww_setW, xE_new, xsz_new, xsl_new, h1, h2, xsub]; done) | (simp [xE_setI, xsz_setI, xsl_setI, xtag_setI, xown_setI, xlen_setI, xE_setR, xsz_setR, xsl_setR, xtag_setR, xown_setR, xlen_setR, xE_setW, xsz_setW, xsl_setW, xtag_setW, xown_setW, xlen_setW, xi_setR, xi_setW, xr_setI, xr_setW, xww_setI, xww_setR, xi_setI, xr_setR, xww_setW, xE_new, xsz_new, xsl_new, h1, h2] <;> rfl)) ?_
    refine xw_icmp_ge (pc := 38) 45 dX7_isAhead_38 rfl (fun hb38 => ?_) (fun hb38 => ?_)
    · refine xw_iconst (v := nI 0) (pc := 45) dX7_isAhead_45 rfl ?_
      refine xw_iret (pc := 46) .boolean dX7_isAhead_46 rfl ?_ 
      refine ⟨congrArg (fun x => Sum.inl (some (Value.int x))) ?_, rfl⟩
      unfold ahd
      first
        | (rw [if_pos hb8]; first | (have q := Int32.not_lt.mpr hb38; change bI false = _; simp [q]; done) | (have q := Int32.not_le.mp hb38; change bI true = _; simp [q]; done))
        | (rw [if_neg hb8]; first | (have q := Int32.not_lt.mpr hb19; change bI false = _; simp [q]; done) | (have q := Int32.not_le.mp hb19; change bI true = _; simp [q]; done))
    · refine xw_iconst (v := nI 1) (pc := 41) dX7_isAhead_41 rfl ?_
      refine xw_goto (pc := 42) 46 dX7_isAhead_42 rfl ?_
      refine xw_iret (pc := 46) .boolean dX7_isAhead_46 rfl ?_ 
      refine ⟨congrArg (fun x => Sum.inl (some (Value.int x))) ?_, rfl⟩
      unfold ahd
      first
        | (rw [if_pos hb8]; first | (have q := Int32.not_lt.mpr hb38; change bI false = _; simp [q]; done) | (have q := Int32.not_le.mp hb38; change bI true = _; simp [q]; done))
        | (rw [if_neg hb8]; first | (have q := Int32.not_lt.mpr hb19; change bI false = _; simp [q]; done) | (have q := Int32.not_le.mp hb19; change bI true = _; simp [q]; done))
  · refine xw_aload_n (pc := 11) dX7_isAhead_11 0 rfl ?_
    refine xw_getI (pc := 12) fd_X7_30 dX7_isAhead_12 (by first | assumption | (simp [xE_setI, xsz_setI, xsl_setI, xtag_setI, xown_setI, xlen_setI, xE_setR, xsz_setR, xsl_setR, xtag_setR, xown_setR, xlen_setR, xE_setW, xsz_setW, xsl_setW, xtag_setW, xown_setW, xlen_setW, xi_setR, xi_setW, xr_setI, xr_setW, xww_setI, xww_setR, xi_setI, xr_setR, xww_setW, xE_new, xsz_new, xsl_new, h1, h2, xsub]; done) | (simp [xE_setI, xsz_setI, xsl_setI, xtag_setI, xown_setI, xlen_setI, xE_setR, xsz_setR, xsl_setR, xtag_setR, xown_setR, xlen_setR, xE_setW, xsz_setW, xsl_setW, xtag_setW, xown_setW, xlen_setW, xi_setR, xi_setW, xr_setI, xr_setW, xww_setI, xww_setR, xi_setI, xr_setR, xww_setW, xE_new, xsz_new, xsl_new, h1, h2] <;> rfl)) ?_
    refine xw_aload_n (pc := 15) dX7_isAhead_15 1 rfl ?_
    refine xw_getI (pc := 16) fd_X7_30 dX7_isAhead_16 (by first | assumption | (simp [xE_setI, xsz_setI, xsl_setI, xtag_setI, xown_setI, xlen_setI, xE_setR, xsz_setR, xsl_setR, xtag_setR, xown_setR, xlen_setR, xE_setW, xsz_setW, xsl_setW, xtag_setW, xown_setW, xlen_setW, xi_setR, xi_setW, xr_setI, xr_setW, xww_setI, xww_setR, xi_setI, xr_setR, xww_setW, xE_new, xsz_new, xsl_new, h1, h2, xsub]; done) | (simp [xE_setI, xsz_setI, xsl_setI, xtag_setI, xown_setI, xlen_setI, xE_setR, xsz_setR, xsl_setR, xtag_setR, xown_setR, xlen_setR, xE_setW, xsz_setW, xsl_setW, xtag_setW, xown_setW, xlen_setW, xi_setR, xi_setW, xr_setI, xr_setW, xww_setI, xww_setR, xi_setI, xr_setR, xww_setW, xE_new, xsz_new, xsl_new, h1, h2] <;> rfl)) ?_
    refine xw_icmp_le (pc := 19) 26 dX7_isAhead_19 rfl (fun hb19 => ?_) (fun hb19 => ?_)
    · refine xw_iconst (v := nI 0) (pc := 26) dX7_isAhead_26 rfl ?_
      refine xw_goto (pc := 27) 46 dX7_isAhead_27 rfl ?_
      refine xw_iret (pc := 46) .boolean dX7_isAhead_46 rfl ?_ 
      refine ⟨congrArg (fun x => Sum.inl (some (Value.int x))) ?_, rfl⟩
      unfold ahd
      first
        | (rw [if_pos hb8]; first | (have q := Int32.not_lt.mpr hb38; change bI false = _; simp [q]; done) | (have q := Int32.not_le.mp hb38; change bI true = _; simp [q]; done))
        | (rw [if_neg hb8]; first | (have q := Int32.not_lt.mpr hb19; change bI false = _; simp [q]; done) | (have q := Int32.not_le.mp hb19; change bI true = _; simp [q]; done))
    · refine xw_iconst (v := nI 1) (pc := 22) dX7_isAhead_22 rfl ?_
      refine xw_goto (pc := 23) 46 dX7_isAhead_23 rfl ?_
      refine xw_iret (pc := 46) .boolean dX7_isAhead_46 rfl ?_ 
      refine ⟨congrArg (fun x => Sum.inl (some (Value.int x))) ?_, rfl⟩
      unfold ahd
      first
        | (rw [if_pos hb8]; first | (have q := Int32.not_lt.mpr hb38; change bI false = _; simp [q]; done) | (have q := Int32.not_le.mp hb38; change bI true = _; simp [q]; done))
        | (rw [if_neg hb8]; first | (have q := Int32.not_lt.mpr hb19; change bI false = _; simp [q]; done) | (have q := Int32.not_le.mp hb19; change bI true = _; simp [q]; done))

theorem SP_X10_init {d : Nat} {g : xG} {a : Nat} : XM M_X10_init (d + 1) [.ref a] g (xOne none g) := by
  refine xm_of (by decide +kernel) (Nat.le_of_ble_eq_true rfl) ?_
  show XW _ _ 0 [(0, _)] [] _ _
  refine xw_aload_n (pc := 0) dX10_init_0 0 rfl ?_
  refine xw_objInit (pc := 1) dX10_init_1 q1273 (Nat.le_of_ble_eq_true rfl) ?_
  refine xw_vret (pc := 4) dX10_init_4 rfl ?_
  exact ⟨rfl, rfl⟩

theorem SP_X11_init {d : Nat} {g : xG} {a : Nat} {x y : Int32} (ht : xtag g a = 9) (ho : xown g a ≠ 0) : XM M_X11_init (d + 1) [.ref a, .int x, .int y] g (xOne none (xsetI (xsetI g a 0 x) a 1 y)) := by
  refine xm_of (by decide +kernel) (Nat.le_of_ble_eq_true rfl) ?_
  show XW _ _ 0 [(0, _), (1, _), (2, _)] [] _ _
  refine xw_aload_n (pc := 0) dX11_init_0 0 rfl ?_
  refine xw_objInit (pc := 1) dX11_init_1 q1292 (Nat.le_of_ble_eq_true rfl) ?_
  refine xw_aload_n (pc := 4) dX11_init_4 0 rfl ?_
  refine xw_iload_n (pc := 5) dX11_init_5 1 rfl ?_
  refine xw_putI (pc := 6) fd_X11_7 (xfin_of (by decide) (by decide +kernel)) dX11_init_6 (by first | assumption | (simp [xE_setI, xsz_setI, xsl_setI, xtag_setI, xown_setI, xlen_setI, xE_setR, xsz_setR, xsl_setR, xtag_setR, xown_setR, xlen_setR, xE_setW, xsz_setW, xsl_setW, xtag_setW, xown_setW, xlen_setW, xi_setR, xi_setW, xr_setI, xr_setW, xww_setI, xww_setR, xi_setI, xr_setR, xww_setW, xE_new, xsz_new, xsl_new, ht, xsub]; done) | (simp [xE_setI, xsz_setI, xsl_setI, xtag_setI, xown_setI, xlen_setI, xE_setR, xsz_setR, xsl_setR, xtag_setR, xown_setR, xlen_setR, xE_setW, xsz_setW, xsl_setW, xtag_setW, xown_setW, xlen_setW, xi_setR, xi_setW, xr_setI, xr_setW, xww_setI, xww_setR, xi_setI, xr_setR, xww_setW, xE_new, xsz_new, xsl_new, ht] <;> rfl)) (by first | assumption | (simp [xE_setI, xsz_setI, xsl_setI, xtag_setI, xown_setI, xlen_setI, xE_setR, xsz_setR, xsl_setR, xtag_setR, xown_setR, xlen_setR, xE_setW, xsz_setW, xsl_setW, xtag_setW, xown_setW, xlen_setW, xi_setR, xi_setW, xr_setI, xr_setW, xww_setI, xww_setR, xi_setI, xr_setR, xww_setW, xE_new, xsz_new, xsl_new, ht]; done) | (simp [xE_setI, xsz_setI, xsl_setI, xtag_setI, xown_setI, xlen_setI, xE_setR, xsz_setR, xsl_setR, xtag_setR, xown_setR, xlen_setR, xE_setW, xsz_setW, xsl_setW, xtag_setW, xown_setW, xlen_setW, xi_setR, xi_setW, xr_setI, xr_setW, xww_setI, xww_setR, xi_setI, xr_setR, xww_setW, xE_new, xsz_new, xsl_new, ht]; assumption)) ?_
  refine xw_aload_n (pc := 9) dX11_init_9 0 rfl ?_
  refine xw_iload_n (pc := 10) dX11_init_10 2 rfl ?_
  refine xw_putI (pc := 11) fd_X11_13 (xfin_of (by decide) (by decide +kernel)) dX11_init_11 (by first | assumption | (simp [xE_setI, xsz_setI, xsl_setI, xtag_setI, xown_setI, xlen_setI, xE_setR, xsz_setR, xsl_setR, xtag_setR, xown_setR, xlen_setR, xE_setW, xsz_setW, xsl_setW, xtag_setW, xown_setW, xlen_setW, xi_setR, xi_setW, xr_setI, xr_setW, xww_setI, xww_setR, xi_setI, xr_setR, xww_setW, xE_new, xsz_new, xsl_new, ht, xsub]; done) | (simp [xE_setI, xsz_setI, xsl_setI, xtag_setI, xown_setI, xlen_setI, xE_setR, xsz_setR, xsl_setR, xtag_setR, xown_setR, xlen_setR, xE_setW, xsz_setW, xsl_setW, xtag_setW, xown_setW, xlen_setW, xi_setR, xi_setW, xr_setI, xr_setW, xww_setI, xww_setR, xi_setI, xr_setR, xww_setW, xE_new, xsz_new, xsl_new, ht] <;> rfl)) (by first | assumption | (simp [xE_setI, xsz_setI, xsl_setI, xtag_setI, xown_setI, xlen_setI, xE_setR, xsz_setR, xsl_setR, xtag_setR, xown_setR, xlen_setR, xE_setW, xsz_setW, xsl_setW, xtag_setW, xown_setW, xlen_setW, xi_setR, xi_setW, xr_setI, xr_setW, xww_setI, xww_setR, xi_setI, xr_setR, xww_setW, xE_new, xsz_new, xsl_new, ht]; done) | (simp [xE_setI, xsz_setI, xsl_setI, xtag_setI, xown_setI, xlen_setI, xE_setR, xsz_setR, xsl_setR, xtag_setR, xown_setR, xlen_setR, xE_setW, xsz_setW, xsl_setW, xtag_setW, xown_setW, xlen_setW, xi_setR, xi_setW, xr_setI, xr_setW, xww_setI, xww_setR, xi_setI, xr_setR, xww_setW, xE_new, xsz_new, xsl_new, ht]; assumption)) ?_
  refine xw_vret (pc := 14) dX11_init_14 rfl ?_
  exact ⟨rfl, rfl⟩

theorem SP_X10_asks_0 {d : Nat} {g : xG} {a : Nat} {x y : Int32} : XM M_X10_asks d [.ref a, .int (bI false), .int x, .int y] g (xOne (some (.ref a)) g) := by
  refine xm_of (by decide +kernel) (Nat.le_of_ble_eq_true rfl) ?_
  show XW _ _ 0 [(0, _), (1, _), (2, _), (3, _)] [] _ _
  refine xw_iload_n (pc := 0) dX10_asks_0 1 rfl ?_
  refine xw_if_eq (pc := 1) 24 dX10_asks_1 rfl (fun _ => ?_) (fun hb => absurd hb (by decide))
  refine xw_aload_n (pc := 24) dX10_asks_24 0 rfl ?_
  refine xw_aret (pc := 25) (.object "PolicyNotation$Whys") dX10_asks_25 rfl ?_
  exact ⟨rfl, rfl⟩

theorem SP_X10_asks_1 {d : Nat} {g : xG} {a w : Nat} {x y : Int32} (ht : xtag g a = 8) (hw : xr g a 0 = some w) : XM M_X10_asks d [.ref a, .int (bI true), .int x, .int y] g (xOne (some (.ref a)) g) := by
  refine xm_of (by decide +kernel) (Nat.le_of_ble_eq_true rfl) ?_
  show XW _ _ 0 [(0, _), (1, _), (2, _), (3, _)] [] _ _
  refine xw_iload_n (pc := 0) dX10_asks_0 1 rfl ?_
  refine xw_if_eq (pc := 1) 24 dX10_asks_1 rfl (fun hb => absurd hb (by decide)) (fun _ => ?_)
  refine xw_aload_n (pc := 4) dX10_asks_4 0 rfl ?_
  refine xw_getS (b := w) (pc := 5) fd_X10_7 dX10_asks_5 (by first | assumption | (simp [xE_setI, xsz_setI, xsl_setI, xtag_setI, xown_setI, xlen_setI, xE_setR, xsz_setR, xsl_setR, xtag_setR, xown_setR, xlen_setR, xE_setW, xsz_setW, xsl_setW, xtag_setW, xown_setW, xlen_setW, xi_setR, xi_setW, xr_setI, xr_setW, xww_setI, xww_setR, xi_setI, xr_setR, xww_setW, xE_new, xsz_new, xsl_new, ht, hw, xsub]; done) | (simp [xE_setI, xsz_setI, xsl_setI, xtag_setI, xown_setI, xlen_setI, xE_setR, xsz_setR, xsl_setR, xtag_setR, xown_setR, xlen_setR, xE_setW, xsz_setW, xsl_setW, xtag_setW, xown_setW, xlen_setW, xi_setR, xi_setW, xr_setI, xr_setW, xww_setI, xww_setR, xi_setI, xr_setR, xww_setW, xE_new, xsz_new, xsl_new, ht, hw] <;> rfl)) (by simp [xE_setI, xsz_setI, xsl_setI, xtag_setI, xown_setI, xlen_setI, xE_setR, xsz_setR, xsl_setR, xtag_setR, xown_setR, xlen_setR, xE_setW, xsz_setW, xsl_setW, xtag_setW, xown_setW, xlen_setW, xi_setR, xi_setW, xr_setI, xr_setW, xww_setI, xww_setR, xi_setI, xr_setR, xww_setW, xE_new, xsz_new, xsl_new, ht, hw]) ?_
  refine xw_ifnonnull (pc := 8) 24 dX10_asks_8 rfl ?_
  refine xw_aload_n (pc := 24) dX10_asks_24 0 rfl ?_
  refine xw_aret (pc := 25) (.object "PolicyNotation$Whys") dX10_asks_25 rfl ?_
  exact ⟨rfl, rfl⟩

theorem SP_X10_isNone_T {d : Nat} {g : xG} {a : Nat} (ht : xtag g a = 8) (hw : xr g a 0 = none) : XM M_X10_isNone d [.ref a] g (xOne (some (.int (bI true))) g) := by
  refine xm_of (by decide +kernel) (Nat.le_of_ble_eq_true rfl) ?_
  show XW _ _ 0 [(0, _)] [] _ _
  refine xw_aload_n (pc := 0) dX10_isNone_0 0 rfl ?_
  refine xw_getN (pc := 1) fd_X10_7 dX10_isNone_1 (by first | assumption | (simp [xE_setI, xsz_setI, xsl_setI, xtag_setI, xown_setI, xlen_setI, xE_setR, xsz_setR, xsl_setR, xtag_setR, xown_setR, xlen_setR, xE_setW, xsz_setW, xsl_setW, xtag_setW, xown_setW, xlen_setW, xi_setR, xi_setW, xr_setI, xr_setW, xww_setI, xww_setR, xi_setI, xr_setR, xww_setW, xE_new, xsz_new, xsl_new, ht, hw, xsub]; done) | (simp [xE_setI, xsz_setI, xsl_setI, xtag_setI, xown_setI, xlen_setI, xE_setR, xsz_setR, xsl_setR, xtag_setR, xown_setR, xlen_setR, xE_setW, xsz_setW, xsl_setW, xtag_setW, xown_setW, xlen_setW, xi_setR, xi_setW, xr_setI, xr_setW, xww_setI, xww_setR, xi_setI, xr_setR, xww_setW, xE_new, xsz_new, xsl_new, ht, hw] <;> rfl)) (by simp [xE_setI, xsz_setI, xsl_setI, xtag_setI, xown_setI, xlen_setI, xE_setR, xsz_setR, xsl_setR, xtag_setR, xown_setR, xlen_setR, xE_setW, xsz_setW, xsl_setW, xtag_setW, xown_setW, xlen_setW, xi_setR, xi_setW, xr_setI, xr_setW, xww_setI, xww_setR, xi_setI, xr_setR, xww_setW, xE_new, xsz_new, xsl_new, ht, hw]) ?_
  refine xw_ifnonnullN (pc := 4) dX10_isNone_4 ?_
  refine xw_iconst (v := nI 1) (pc := 7) dX10_isNone_7 rfl ?_
  refine xw_goto (pc := 8) 12 dX10_isNone_8 rfl ?_
  refine xw_iret (pc := 12) .boolean dX10_isNone_12 rfl ?_ 
  exact ⟨rfl, rfl⟩

theorem SP_X10_isNone_F {d : Nat} {g : xG} {a w : Nat} (ht : xtag g a = 8) (hw : xr g a 0 = some w) : XM M_X10_isNone d [.ref a] g (xOne (some (.int (bI false))) g) := by
  refine xm_of (by decide +kernel) (Nat.le_of_ble_eq_true rfl) ?_
  show XW _ _ 0 [(0, _)] [] _ _
  refine xw_aload_n (pc := 0) dX10_isNone_0 0 rfl ?_
  refine xw_getS (b := w) (pc := 1) fd_X10_7 dX10_isNone_1 (by first | assumption | (simp [xE_setI, xsz_setI, xsl_setI, xtag_setI, xown_setI, xlen_setI, xE_setR, xsz_setR, xsl_setR, xtag_setR, xown_setR, xlen_setR, xE_setW, xsz_setW, xsl_setW, xtag_setW, xown_setW, xlen_setW, xi_setR, xi_setW, xr_setI, xr_setW, xww_setI, xww_setR, xi_setI, xr_setR, xww_setW, xE_new, xsz_new, xsl_new, ht, hw, xsub]; done) | (simp [xE_setI, xsz_setI, xsl_setI, xtag_setI, xown_setI, xlen_setI, xE_setR, xsz_setR, xsl_setR, xtag_setR, xown_setR, xlen_setR, xE_setW, xsz_setW, xsl_setW, xtag_setW, xown_setW, xlen_setW, xi_setR, xi_setW, xr_setI, xr_setW, xww_setI, xww_setR, xi_setI, xr_setR, xww_setW, xE_new, xsz_new, xsl_new, ht, hw] <;> rfl)) (by simp [xE_setI, xsz_setI, xsl_setI, xtag_setI, xown_setI, xlen_setI, xE_setR, xsz_setR, xsl_setR, xtag_setR, xown_setR, xlen_setR, xE_setW, xsz_setW, xsl_setW, xtag_setW, xown_setW, xlen_setW, xi_setR, xi_setW, xr_setI, xr_setW, xww_setI, xww_setR, xi_setI, xr_setR, xww_setW, xE_new, xsz_new, xsl_new, ht, hw]) ?_
  refine xw_ifnonnull (pc := 4) 11 dX10_isNone_4 rfl ?_
  refine xw_iconst (v := nI 0) (pc := 11) dX10_isNone_11 rfl ?_
  refine xw_iret (pc := 12) .boolean dX10_isNone_12 rfl ?_ 
  exact ⟨rfl, rfl⟩

theorem SP_X10_asks_T {d : Nat} {g : xG} {a : Nat} {x y : Int32} (ht : xtag g a = 8) (ho : xown g a ≠ 0) (hw : xr g a 0 = none) : XM M_X10_asks (d + 2) [.ref a, .int (bI true), .int x, .int y] g (xOne (some (.ref a)) (xsetR (xsetI (xsetI (xNew g (xBlank 9 5 2) 2) (xsz g) 0 x) (xsz g) 1 y) a 0 (some (xsz g)))) := by
  have hlt : a < xsz g := xlt (by rw [ht]; decide)
  have ht2 : xtag (xNew g (xBlank 9 5 2) 2) (xsz g) = 9 := by rw [xtag_newS rfl]; rfl
  have ho2 : xown (xNew g (xBlank 9 5 2) 2) (xsz g) ≠ 0 := by rw [xown_newS rfl]; decide
  have ht3 : xtag (xsetI (xsetI (xNew g (xBlank 9 5 2) 2) (xsz g) 0 x) (xsz g) 1 y) a = 8 := by rw [xtag_setI, xtag_setI, xtag_new hlt]; exact ht
  have ho3 : xown (xsetI (xsetI (xNew g (xBlank 9 5 2) 2) (xsz g) 0 x) (xsz g) 1 y) a ≠ 0 := by rw [xown_setI, xown_setI, xown_new hlt]; exact ho
  refine xm_of (by decide +kernel) (Nat.le_of_ble_eq_true rfl) ?_
  show XW _ _ 0 [(0, _), (1, _), (2, _), (3, _)] [] _ _
  refine xw_iload_n (pc := 0) dX10_asks_0 1 rfl ?_
  refine xw_if_eq (pc := 1) 24 dX10_asks_1 rfl (fun hb => absurd hb (by decide)) (fun _ => ?_)
  refine xw_aload_n (pc := 4) dX10_asks_4 0 rfl ?_
  refine xw_getN (pc := 5) fd_X10_7 dX10_asks_5 (by first | assumption | (simp [xE_setI, xsz_setI, xsl_setI, xtag_setI, xown_setI, xlen_setI, xE_setR, xsz_setR, xsl_setR, xtag_setR, xown_setR, xlen_setR, xE_setW, xsz_setW, xsl_setW, xtag_setW, xown_setW, xlen_setW, xi_setR, xi_setW, xr_setI, xr_setW, xww_setI, xww_setR, xi_setI, xr_setR, xww_setW, xE_new, xsz_new, xsl_new, ht, hw, xsub]; done) | (simp [xE_setI, xsz_setI, xsl_setI, xtag_setI, xown_setI, xlen_setI, xE_setR, xsz_setR, xsl_setR, xtag_setR, xown_setR, xlen_setR, xE_setW, xsz_setW, xsl_setW, xtag_setW, xown_setW, xlen_setW, xi_setR, xi_setW, xr_setI, xr_setW, xww_setI, xww_setR, xi_setI, xr_setR, xww_setW, xE_new, xsz_new, xsl_new, ht, hw] <;> rfl)) (by simp [xE_setI, xsz_setI, xsl_setI, xtag_setI, xown_setI, xlen_setI, xE_setR, xsz_setR, xsl_setR, xtag_setR, xown_setR, xlen_setR, xE_setW, xsz_setW, xsl_setW, xtag_setW, xown_setW, xlen_setW, xi_setR, xi_setW, xr_setI, xr_setW, xww_setI, xww_setR, xi_setI, xr_setR, xww_setW, xE_new, xsz_new, xsl_new, ht, hw]) ?_
  refine xw_ifnonnullN (pc := 8) dX10_asks_8 ?_
  refine xw_aload_n (pc := 11) dX10_asks_11 0 rfl ?_
  refine xw_new (t := 9) (pc := 12) 5 dX10_asks_12 rfl (by decide) (by first | decide | assumption | omega) q1287 q1288 q128 ?_
  refine xw_at (a := (xsz g)) (by rfl) ?_
  refine xw_dup (pc := 15) dX10_asks_15 rfl ?_
  refine xw_iload_n (pc := 16) dX10_asks_16 2 rfl ?_
  refine xw_iload_n (pc := 17) dX10_asks_17 3 rfl ?_
  refine xw_callU (pc := 18) (xr_I (as := [_, _]) ok_X11_init rfl (by decide) q1289 q1290 rfl rfl dX10_asks_18 rfl rfl (Nat.le_of_ble_eq_true rfl)) (SP_X11_init ht2 ho2) ?_
  have htx3 : xsub 8 (xtag (xsetI (xsetI (xNew g (xBlank 9 5 2) 2) (xsz g) 0 x) (xsz g) 1 y) a) = true := by rw [ht3]; rfl
  refine xw_putR (o := (some (xsz g))) (pc := 21) fd_X10_7 (xfin_of (by decide) (by decide +kernel)) dX10_asks_21 (by first | assumption | (simp [xE_setI, xsz_setI, xsl_setI, xtag_setI, xown_setI, xlen_setI, xE_setR, xsz_setR, xsl_setR, xtag_setR, xown_setR, xlen_setR, xE_setW, xsz_setW, xsl_setW, xtag_setW, xown_setW, xlen_setW, xi_setR, xi_setW, xr_setI, xr_setW, xww_setI, xww_setR, xi_setI, xr_setR, xww_setW, xE_new, xsz_new, xsl_new, ht, hw, xsub]; done) | (simp [xE_setI, xsz_setI, xsl_setI, xtag_setI, xown_setI, xlen_setI, xE_setR, xsz_setR, xsl_setR, xtag_setR, xown_setR, xlen_setR, xE_setW, xsz_setW, xsl_setW, xtag_setW, xown_setW, xlen_setW, xi_setR, xi_setW, xr_setI, xr_setW, xww_setI, xww_setR, xi_setI, xr_setR, xww_setW, xE_new, xsz_new, xsl_new, ht, hw] <;> rfl)) (by first | assumption | (simp [xE_setI, xsz_setI, xsl_setI, xtag_setI, xown_setI, xlen_setI, xE_setR, xsz_setR, xsl_setR, xtag_setR, xown_setR, xlen_setR, xE_setW, xsz_setW, xsl_setW, xtag_setW, xown_setW, xlen_setW, xi_setR, xi_setW, xr_setI, xr_setW, xww_setI, xww_setR, xi_setI, xr_setR, xww_setW, xE_new, xsz_new, xsl_new, ht, hw]; done) | (simp [xE_setI, xsz_setI, xsl_setI, xtag_setI, xown_setI, xlen_setI, xE_setR, xsz_setR, xsl_setR, xtag_setR, xown_setR, xlen_setR, xE_setW, xsz_setW, xsl_setW, xtag_setW, xown_setW, xlen_setW, xi_setR, xi_setW, xr_setI, xr_setW, xww_setI, xww_setR, xi_setI, xr_setR, xww_setW, xE_new, xsz_new, xsl_new, ht, hw]; assumption)) rfl ?_
  refine xw_aload_n (pc := 24) dX10_asks_24 0 rfl ?_
  refine xw_aret (pc := 25) (.object "PolicyNotation$Whys") dX10_asks_25 rfl ?_
  exact ⟨rfl, rfl⟩

theorem SP_X1_refuse_T {d : Nat} {g : xG} {a q : Nat} (ht : xtag g q = 8) (hw : xr g q 0 = none) : XM M_X1_refuse (d + 1) [.ref a, .ref q] g (xOne none g) := by
  refine xm_of (by decide +kernel) (Nat.le_of_ble_eq_true rfl) ?_
  show XW _ _ 0 [(0, _), (1, _)] [] _ _
  refine xw_aload_n (pc := 0) dX1_refuse_0 1 rfl ?_
  refine xw_callV (pc := 1) (xr_V (as := []) ok_X10_isNone rfl (by decide) q1306 q1307 q1308 (by rw [ht]; rfl) (by rw [ht]; rfl) dX1_refuse_1 rfl rfl (Nat.le_of_ble_eq_true rfl)) (SP_X10_isNone_T ht hw) ?_
  refine xw_if_eq (pc := 4) 8 dX1_refuse_4 rfl (fun hb => absurd hb (by decide)) (fun _ => ?_)
  refine xw_vret (pc := 7) dX1_refuse_7 rfl ?_
  exact ⟨rfl, rfl⟩

theorem SP_X1_refuse_F {d : Nat} {g : xG} {a q w : Nat} (hta : xtag g a = 1) (hoa : xown g a ≠ 0) (ht : xtag g q = 8) (hw : xr g q 0 = some w) (htw : xtag g w = 9) : XM M_X1_refuse (d + 6) [.ref a, .ref q] g (xThr (xsz g) (xExc (xsetI (xsetI g a 4 (xi g w 0)) a 5 (xi g w 1)) 26)) := by
  have hne : w ≠ a := fun e => by rw [e, hta] at htw; cases htw
  refine xm_of (by decide +kernel) (Nat.le_of_ble_eq_true rfl) ?_
  show XW _ _ 0 [(0, _), (1, _)] [] _ _
  refine xw_aload_n (pc := 0) dX1_refuse_0 1 rfl ?_
  refine xw_callV (pc := 1) (xr_V (as := []) ok_X10_isNone rfl (by decide) q1306 q1307 q1308 (by rw [ht]; rfl) (by rw [ht]; rfl) dX1_refuse_1 rfl rfl (Nat.le_of_ble_eq_true rfl)) (SP_X10_isNone_F ht hw) ?_
  refine xw_if_eq (pc := 4) 8 dX1_refuse_4 rfl (fun _ => ?_) (fun hb => absurd hb (by decide))
  refine xw_aload_n (pc := 8) dX1_refuse_8 0 rfl ?_
  refine xw_aload_n (pc := 9) dX1_refuse_9 1 rfl ?_
  refine xw_getS (b := w) (pc := 10) fd_X1_76 dX1_refuse_10 (by first | assumption | (simp [xE_setI, xsz_setI, xsl_setI, xtag_setI, xown_setI, xlen_setI, xE_setR, xsz_setR, xsl_setR, xtag_setR, xown_setR, xlen_setR, xE_setW, xsz_setW, xsl_setW, xtag_setW, xown_setW, xlen_setW, xi_setR, xi_setW, xr_setI, xr_setW, xww_setI, xww_setR, xi_setI, xr_setR, xww_setW, xE_new, xsz_new, xsl_new, hta, ht, hw, htw, xsub]; done) | (simp [xE_setI, xsz_setI, xsl_setI, xtag_setI, xown_setI, xlen_setI, xE_setR, xsz_setR, xsl_setR, xtag_setR, xown_setR, xlen_setR, xE_setW, xsz_setW, xsl_setW, xtag_setW, xown_setW, xlen_setW, xi_setR, xi_setW, xr_setI, xr_setW, xww_setI, xww_setR, xi_setI, xr_setR, xww_setW, xE_new, xsz_new, xsl_new, hta, ht, hw, htw] <;> rfl)) (by simp [xE_setI, xsz_setI, xsl_setI, xtag_setI, xown_setI, xlen_setI, xE_setR, xsz_setR, xsl_setR, xtag_setR, xown_setR, xlen_setR, xE_setW, xsz_setW, xsl_setW, xtag_setW, xown_setW, xlen_setW, xi_setR, xi_setW, xr_setI, xr_setW, xww_setI, xww_setR, xi_setI, xr_setR, xww_setW, xE_new, xsz_new, xsl_new, hta, ht, hw, htw]) ?_
  refine xw_getI (pc := 13) fd_X1_80 dX1_refuse_13 (by first | assumption | (simp [xE_setI, xsz_setI, xsl_setI, xtag_setI, xown_setI, xlen_setI, xE_setR, xsz_setR, xsl_setR, xtag_setR, xown_setR, xlen_setR, xE_setW, xsz_setW, xsl_setW, xtag_setW, xown_setW, xlen_setW, xi_setR, xi_setW, xr_setI, xr_setW, xww_setI, xww_setR, xi_setI, xr_setR, xww_setW, xE_new, xsz_new, xsl_new, hta, ht, hw, htw, xsub]; done) | (simp [xE_setI, xsz_setI, xsl_setI, xtag_setI, xown_setI, xlen_setI, xE_setR, xsz_setR, xsl_setR, xtag_setR, xown_setR, xlen_setR, xE_setW, xsz_setW, xsl_setW, xtag_setW, xown_setW, xlen_setW, xi_setR, xi_setW, xr_setI, xr_setW, xww_setI, xww_setR, xi_setI, xr_setR, xww_setW, xE_new, xsz_new, xsl_new, hta, ht, hw, htw] <;> rfl)) ?_
  refine xw_putI (pc := 16) fd_X1_85 (xfin_of (by decide) (by decide +kernel)) dX1_refuse_16 (by first | assumption | (simp [xE_setI, xsz_setI, xsl_setI, xtag_setI, xown_setI, xlen_setI, xE_setR, xsz_setR, xsl_setR, xtag_setR, xown_setR, xlen_setR, xE_setW, xsz_setW, xsl_setW, xtag_setW, xown_setW, xlen_setW, xi_setR, xi_setW, xr_setI, xr_setW, xww_setI, xww_setR, xi_setI, xr_setR, xww_setW, xE_new, xsz_new, xsl_new, hta, ht, hw, htw, xsub]; done) | (simp [xE_setI, xsz_setI, xsl_setI, xtag_setI, xown_setI, xlen_setI, xE_setR, xsz_setR, xsl_setR, xtag_setR, xown_setR, xlen_setR, xE_setW, xsz_setW, xsl_setW, xtag_setW, xown_setW, xlen_setW, xi_setR, xi_setW, xr_setI, xr_setW, xww_setI, xww_setR, xi_setI, xr_setR, xww_setW, xE_new, xsz_new, xsl_new, hta, ht, hw, htw] <;> rfl)) (by first | assumption | (simp [xE_setI, xsz_setI, xsl_setI, xtag_setI, xown_setI, xlen_setI, xE_setR, xsz_setR, xsl_setR, xtag_setR, xown_setR, xlen_setR, xE_setW, xsz_setW, xsl_setW, xtag_setW, xown_setW, xlen_setW, xi_setR, xi_setW, xr_setI, xr_setW, xww_setI, xww_setR, xi_setI, xr_setR, xww_setW, xE_new, xsz_new, xsl_new, hta, ht, hw, htw]; done) | (simp [xE_setI, xsz_setI, xsl_setI, xtag_setI, xown_setI, xlen_setI, xE_setR, xsz_setR, xsl_setR, xtag_setR, xown_setR, xlen_setR, xE_setW, xsz_setW, xsl_setW, xtag_setW, xown_setW, xlen_setW, xi_setR, xi_setW, xr_setI, xr_setW, xww_setI, xww_setR, xi_setI, xr_setR, xww_setW, xE_new, xsz_new, xsl_new, hta, ht, hw, htw]; assumption)) ?_
  refine xw_aload_n (pc := 19) dX1_refuse_19 0 rfl ?_
  refine xw_aload_n (pc := 20) dX1_refuse_20 1 rfl ?_
  refine xw_getS (b := w) (pc := 21) fd_X1_76 dX1_refuse_21 (by first | assumption | (simp [xE_setI, xsz_setI, xsl_setI, xtag_setI, xown_setI, xlen_setI, xE_setR, xsz_setR, xsl_setR, xtag_setR, xown_setR, xlen_setR, xE_setW, xsz_setW, xsl_setW, xtag_setW, xown_setW, xlen_setW, xi_setR, xi_setW, xr_setI, xr_setW, xww_setI, xww_setR, xi_setI, xr_setR, xww_setW, xE_new, xsz_new, xsl_new, hta, ht, hw, htw, xsub]; done) | (simp [xE_setI, xsz_setI, xsl_setI, xtag_setI, xown_setI, xlen_setI, xE_setR, xsz_setR, xsl_setR, xtag_setR, xown_setR, xlen_setR, xE_setW, xsz_setW, xsl_setW, xtag_setW, xown_setW, xlen_setW, xi_setR, xi_setW, xr_setI, xr_setW, xww_setI, xww_setR, xi_setI, xr_setR, xww_setW, xE_new, xsz_new, xsl_new, hta, ht, hw, htw] <;> rfl)) (by simp [xE_setI, xsz_setI, xsl_setI, xtag_setI, xown_setI, xlen_setI, xE_setR, xsz_setR, xsl_setR, xtag_setR, xown_setR, xlen_setR, xE_setW, xsz_setW, xsl_setW, xtag_setW, xown_setW, xlen_setW, xi_setR, xi_setW, xr_setI, xr_setW, xww_setI, xww_setR, xi_setI, xr_setR, xww_setW, xE_new, xsz_new, xsl_new, hta, ht, hw, htw]) ?_
  refine xw_getI (pc := 24) fd_X1_86 dX1_refuse_24 (by first | assumption | (simp [xE_setI, xsz_setI, xsl_setI, xtag_setI, xown_setI, xlen_setI, xE_setR, xsz_setR, xsl_setR, xtag_setR, xown_setR, xlen_setR, xE_setW, xsz_setW, xsl_setW, xtag_setW, xown_setW, xlen_setW, xi_setR, xi_setW, xr_setI, xr_setW, xww_setI, xww_setR, xi_setI, xr_setR, xww_setW, xE_new, xsz_new, xsl_new, hta, ht, hw, htw, xsub]; done) | (simp [xE_setI, xsz_setI, xsl_setI, xtag_setI, xown_setI, xlen_setI, xE_setR, xsz_setR, xsl_setR, xtag_setR, xown_setR, xlen_setR, xE_setW, xsz_setW, xsl_setW, xtag_setW, xown_setW, xlen_setW, xi_setR, xi_setW, xr_setI, xr_setW, xww_setI, xww_setR, xi_setI, xr_setR, xww_setW, xE_new, xsz_new, xsl_new, hta, ht, hw, htw] <;> rfl)) ?_
  rw [xi_setIN hne]
  refine xw_putI (pc := 27) fd_X1_89 (xfin_of (by decide) (by decide +kernel)) dX1_refuse_27 (by first | assumption | (simp [xE_setI, xsz_setI, xsl_setI, xtag_setI, xown_setI, xlen_setI, xE_setR, xsz_setR, xsl_setR, xtag_setR, xown_setR, xlen_setR, xE_setW, xsz_setW, xsl_setW, xtag_setW, xown_setW, xlen_setW, xi_setR, xi_setW, xr_setI, xr_setW, xww_setI, xww_setR, xi_setI, xr_setR, xww_setW, xE_new, xsz_new, xsl_new, hta, ht, hw, htw, xsub]; done) | (simp [xE_setI, xsz_setI, xsl_setI, xtag_setI, xown_setI, xlen_setI, xE_setR, xsz_setR, xsl_setR, xtag_setR, xown_setR, xlen_setR, xE_setW, xsz_setW, xsl_setW, xtag_setW, xown_setW, xlen_setW, xi_setR, xi_setW, xr_setI, xr_setW, xww_setI, xww_setR, xi_setI, xr_setR, xww_setW, xE_new, xsz_new, xsl_new, hta, ht, hw, htw] <;> rfl)) (by first | assumption | (simp [xE_setI, xsz_setI, xsl_setI, xtag_setI, xown_setI, xlen_setI, xE_setR, xsz_setR, xsl_setR, xtag_setR, xown_setR, xlen_setR, xE_setW, xsz_setW, xsl_setW, xtag_setW, xown_setW, xlen_setW, xi_setR, xi_setW, xr_setI, xr_setW, xww_setI, xww_setR, xi_setI, xr_setR, xww_setW, xE_new, xsz_new, xsl_new, hta, ht, hw, htw]; done) | (simp [xE_setI, xsz_setI, xsl_setI, xtag_setI, xown_setI, xlen_setI, xE_setR, xsz_setR, xsl_setR, xtag_setR, xown_setR, xlen_setR, xE_setW, xsz_setW, xsl_setW, xtag_setW, xown_setW, xlen_setW, xi_setR, xi_setW, xr_setI, xr_setW, xww_setI, xww_setR, xi_setI, xr_setR, xww_setW, xE_new, xsz_new, xsl_new, hta, ht, hw, htw]; assumption)) ?_
  exact xx_throw0 (pc := 30) 26 rfl (by decide) (by decide) rfl rfl (by decide +kernel) (by decide +kernel) q1310 q129 xt_UOE (by decide +kernel) dX1_refuse_30 dX1_refuse_33 dX1_refuse_34 dX1_refuse_37 (Nat.le_of_ble_eq_true rfl) ⟨rfl, rfl⟩

