/-! CLASS 9: a policy: what is in it -/
set_option maxRecDepth 100000
/-- the policy p: its three lists -/
def xPl (g : xG) (p o1 o2 o3 sl rl wl sa ra wa : Nat) (cs rs ws : List Nat) : Prop := xtag g p = 2 ∧ xr g p 0 = some sl ∧ xr g p 1 = some rl ∧ xr g p 2 = some wl ∧ xAL g o1 sl sa cs ∧ xAL g o2 rl ra rs ∧ xAL g o3 wl wa ws
theorem SP_X2_isScope {d : Nat} {g : xG} {p o1 o2 o3 sl rl wl sa ra wa : Nat} {cs rs ws : List Nat} (hP : xPl g p o1 o2 o3 sl rl wl sa ra wa cs rs ws) {v : Int32} : XM M_X2_isScope (d + 1) [.ref p, .int v] g (xOne (some (.int (bI (inR v (nI 0) (nI cs.length - nI 1))))) g) := by
  obtain ⟨p1, p2, p3, p4, p5, p6, p7⟩ := hP
  have hlt := p5.2.2.2.2.2.2.2.1
  have hle := p5.2.2.2.2.2.2.1
  have htl := p5.1
  refine xm_of (by decide +kernel) (Nat.le_of_ble_eq_true rfl) ?_
  show XW _ _ 0 [(0, _), (1, _)] [] _ _
  refine xw_iload_n (pc := 0) dX2_isScope_0 1 rfl ?_
  refine xw_iconst (v := nI 0) (pc := 1) dX2_isScope_1 rfl ?_
  refine xw_aload_n (pc := 2) dX2_isScope_2 0 rfl ?_
  refine xw_getS (b := sl) (pc := 3) fd_X2_14 dX2_isScope_3 (by first | assumption | (simp [xE_setI, xsz_setI, xsl_setI, xtag_setI, xown_setI, xlen_setI, xE_setR, xsz_setR, xsl_setR, xtag_setR, xown_setR, xlen_setR, xE_setW, xsz_setW, xsl_setW, xtag_setW, xown_setW, xlen_setW, xi_setR, xi_setW, xr_setI, xr_setW, xww_setI, xww_setR, xi_setI, xr_setR, xww_setW, xE_new, xsz_new, xsl_new, p1, p2, p3, p4, xsub]; done) | (simp [xE_setI, xsz_setI, xsl_setI, xtag_setI, xown_setI, xlen_setI, xE_setR, xsz_setR, xsl_setR, xtag_setR, xown_setR, xlen_setR, xE_setW, xsz_setW, xsl_setW, xtag_setW, xown_setW, xlen_setW, xi_setR, xi_setW, xr_setI, xr_setW, xww_setI, xww_setR, xi_setI, xr_setR, xww_setW, xE_new, xsz_new, xsl_new, p1, p2, p3, p4] <;> rfl)) (by simp [xE_setI, xsz_setI, xsl_setI, xtag_setI, xown_setI, xlen_setI, xE_setR, xsz_setR, xsl_setR, xtag_setR, xown_setR, xlen_setR, xE_setW, xsz_setW, xsl_setW, xtag_setW, xown_setW, xlen_setW, xi_setR, xi_setW, xr_setI, xr_setW, xww_setI, xww_setR, xi_setI, xr_setR, xww_setW, xE_new, xsz_new, xsl_new, p1, p2, p3, p4]) ?_
  refine xw_callV (pc := 6) (xr_V (as := []) ok_J2_size rfl (by decide) q910 q702 q703 (by rw [htl]; rfl) (by rw [htl]; rfl) dX2_isScope_6 rfl rfl (Nat.le_of_ble_eq_true rfl)) (SP_J2_size p5) ?_
  refine xw_iconst (v := nI 1) (pc := 9) dX2_isScope_9 rfl ?_
  refine xw_isub (pc := 10) dX2_isScope_10 ?_
  refine xw_callV (pc := 11) (xr_SN (as := [_, _, _]) ok_X1_isIn rfl (by decide) q1064 q784 dX2_isScope_11 rfl rfl (Nat.le_of_ble_eq_true rfl)) (SP_X1_isIn) ?_
  refine xw_iret (pc := 14) .boolean dX2_isScope_14 rfl ?_ (by first | rfl | (cases ‹Bool› <;> rfl) | exact xnB _)
  exact ⟨rfl, rfl⟩

theorem SP_X2_isRule {d : Nat} {g : xG} {p o1 o2 o3 sl rl wl sa ra wa : Nat} {cs rs ws : List Nat} (hP : xPl g p o1 o2 o3 sl rl wl sa ra wa cs rs ws) {v : Int32} : XM M_X2_isRule (d + 1) [.ref p, .int v] g (xOne (some (.int (bI (inR v (nI 0) (nI rs.length - nI 1))))) g) := by
  obtain ⟨p1, p2, p3, p4, p5, p6, p7⟩ := hP
  have hlt := p6.2.2.2.2.2.2.2.1
  have hle := p6.2.2.2.2.2.2.1
  have htl := p6.1
  refine xm_of (by decide +kernel) (Nat.le_of_ble_eq_true rfl) ?_
  show XW _ _ 0 [(0, _), (1, _)] [] _ _
  refine xw_iload_n (pc := 0) dX2_isRule_0 1 rfl ?_
  refine xw_iconst (v := nI 0) (pc := 1) dX2_isRule_1 rfl ?_
  refine xw_aload_n (pc := 2) dX2_isRule_2 0 rfl ?_
  refine xw_getS (b := rl) (pc := 3) fd_X2_20 dX2_isRule_3 (by first | assumption | (simp [xE_setI, xsz_setI, xsl_setI, xtag_setI, xown_setI, xlen_setI, xE_setR, xsz_setR, xsl_setR, xtag_setR, xown_setR, xlen_setR, xE_setW, xsz_setW, xsl_setW, xtag_setW, xown_setW, xlen_setW, xi_setR, xi_setW, xr_setI, xr_setW, xww_setI, xww_setR, xi_setI, xr_setR, xww_setW, xE_new, xsz_new, xsl_new, p1, p2, p3, p4, xsub]; done) | (simp [xE_setI, xsz_setI, xsl_setI, xtag_setI, xown_setI, xlen_setI, xE_setR, xsz_setR, xsl_setR, xtag_setR, xown_setR, xlen_setR, xE_setW, xsz_setW, xsl_setW, xtag_setW, xown_setW, xlen_setW, xi_setR, xi_setW, xr_setI, xr_setW, xww_setI, xww_setR, xi_setI, xr_setR, xww_setW, xE_new, xsz_new, xsl_new, p1, p2, p3, p4] <;> rfl)) (by simp [xE_setI, xsz_setI, xsl_setI, xtag_setI, xown_setI, xlen_setI, xE_setR, xsz_setR, xsl_setR, xtag_setR, xown_setR, xlen_setR, xE_setW, xsz_setW, xsl_setW, xtag_setW, xown_setW, xlen_setW, xi_setR, xi_setW, xr_setI, xr_setW, xww_setI, xww_setR, xi_setI, xr_setR, xww_setW, xE_new, xsz_new, xsl_new, p1, p2, p3, p4]) ?_
  refine xw_callV (pc := 6) (xr_V (as := []) ok_J2_size rfl (by decide) q910 q702 q703 (by rw [htl]; rfl) (by rw [htl]; rfl) dX2_isRule_6 rfl rfl (Nat.le_of_ble_eq_true rfl)) (SP_J2_size p6) ?_
  refine xw_iconst (v := nI 1) (pc := 9) dX2_isRule_9 rfl ?_
  refine xw_isub (pc := 10) dX2_isRule_10 ?_
  refine xw_callV (pc := 11) (xr_SN (as := [_, _, _]) ok_X1_isIn rfl (by decide) q1064 q784 dX2_isRule_11 rfl rfl (Nat.le_of_ble_eq_true rfl)) (SP_X1_isIn) ?_
  refine xw_iret (pc := 14) .boolean dX2_isRule_14 rfl ?_ (by first | rfl | (cases ‹Bool› <;> rfl) | exact xnB _)
  exact ⟨rfl, rfl⟩

theorem SP_X2_isWork {d : Nat} {g : xG} {p o1 o2 o3 sl rl wl sa ra wa : Nat} {cs rs ws : List Nat} (hP : xPl g p o1 o2 o3 sl rl wl sa ra wa cs rs ws) {v : Int32} : XM M_X2_isWork (d + 1) [.ref p, .int v] g (xOne (some (.int (bI (inR v (nI 0) (nI ws.length - nI 1))))) g) := by
  obtain ⟨p1, p2, p3, p4, p5, p6, p7⟩ := hP
  have hlt := p7.2.2.2.2.2.2.2.1
  have hle := p7.2.2.2.2.2.2.1
  have htl := p7.1
  refine xm_of (by decide +kernel) (Nat.le_of_ble_eq_true rfl) ?_
  show XW _ _ 0 [(0, _), (1, _)] [] _ _
  refine xw_iload_n (pc := 0) dX2_isWork_0 1 rfl ?_
  refine xw_iconst (v := nI 0) (pc := 1) dX2_isWork_1 rfl ?_
  refine xw_aload_n (pc := 2) dX2_isWork_2 0 rfl ?_
  refine xw_getS (b := wl) (pc := 3) fd_X2_23 dX2_isWork_3 (by first | assumption | (simp [xE_setI, xsz_setI, xsl_setI, xtag_setI, xown_setI, xlen_setI, xE_setR, xsz_setR, xsl_setR, xtag_setR, xown_setR, xlen_setR, xE_setW, xsz_setW, xsl_setW, xtag_setW, xown_setW, xlen_setW, xi_setR, xi_setW, xr_setI, xr_setW, xww_setI, xww_setR, xi_setI, xr_setR, xww_setW, xE_new, xsz_new, xsl_new, p1, p2, p3, p4, xsub]; done) | (simp [xE_setI, xsz_setI, xsl_setI, xtag_setI, xown_setI, xlen_setI, xE_setR, xsz_setR, xsl_setR, xtag_setR, xown_setR, xlen_setR, xE_setW, xsz_setW, xsl_setW, xtag_setW, xown_setW, xlen_setW, xi_setR, xi_setW, xr_setI, xr_setW, xww_setI, xww_setR, xi_setI, xr_setR, xww_setW, xE_new, xsz_new, xsl_new, p1, p2, p3, p4] <;> rfl)) (by simp [xE_setI, xsz_setI, xsl_setI, xtag_setI, xown_setI, xlen_setI, xE_setR, xsz_setR, xsl_setR, xtag_setR, xown_setR, xlen_setR, xE_setW, xsz_setW, xsl_setW, xtag_setW, xown_setW, xlen_setW, xi_setR, xi_setW, xr_setI, xr_setW, xww_setI, xww_setR, xi_setI, xr_setR, xww_setW, xE_new, xsz_new, xsl_new, p1, p2, p3, p4]) ?_
  refine xw_callV (pc := 6) (xr_V (as := []) ok_J2_size rfl (by decide) q910 q702 q703 (by rw [htl]; rfl) (by rw [htl]; rfl) dX2_isWork_6 rfl rfl (Nat.le_of_ble_eq_true rfl)) (SP_J2_size p7) ?_
  refine xw_iconst (v := nI 1) (pc := 9) dX2_isWork_9 rfl ?_
  refine xw_isub (pc := 10) dX2_isWork_10 ?_
  refine xw_callV (pc := 11) (xr_SN (as := [_, _, _]) ok_X1_isIn rfl (by decide) q1064 q784 dX2_isWork_11 rfl rfl (Nat.le_of_ble_eq_true rfl)) (SP_X1_isIn) ?_
  refine xw_iret (pc := 14) .boolean dX2_isWork_14 rfl ?_ (by first | rfl | (cases ‹Bool› <;> rfl) | exact xnB _)
  exact ⟨rfl, rfl⟩

theorem SP_X2_scope {d : Nat} {g : xG} {p o1 o2 o3 sl rl wl sa ra wa : Nat} {cs rs ws : List Nat} (hP : xPl g p o1 o2 o3 sl rl wl sa ra wa cs rs ws) (k : Nat) (hk : k < cs.length) (hc : xtag g (cs.getD k 0) = 3) : XM M_X2_scope (d + 3) [.ref p, .int (nI k)] g (xOne (some (.ref (cs.getD k 0))) g) := by
  have hP0 := hP
  obtain ⟨p1, p2, p3, p4, p5, p6, p7⟩ := hP
  have hlt := p5.2.2.2.2.2.2.2.1
  have hle := p5.2.2.2.2.2.2.1
  have htl := p5.1
  have hx := SP_X2_isScope (d := d + 1) hP0 (v := nI k)
  rw [inR_k (by omega) hk] at hx
  refine xm_of (by decide +kernel) (Nat.le_of_ble_eq_true rfl) ?_
  show XW _ _ 0 [(0, _), (1, _)] [] _ _
  refine xw_aload_n (pc := 0) dX2_scope_0 0 rfl ?_
  refine xw_iload_n (pc := 1) dX2_scope_1 1 rfl ?_
  refine xw_callV (pc := 2) (xr_V (as := [_]) ok_X2_isScope rfl (by decide) q1060 q1061 q1062 (by rw [p1]; rfl) (by rw [p1]; rfl) dX2_scope_2 rfl rfl (Nat.le_of_ble_eq_true rfl)) (hx) ?_
  refine xw_callU (pc := 5) (xr_SN (as := [_]) ok_X1_checkIndex rfl (by decide) q1065 q1066 dX2_scope_5 rfl rfl (Nat.le_of_ble_eq_true rfl)) (SP_X1_checkIndex_T) ?_
  refine xw_aload_n (pc := 8) dX2_scope_8 0 rfl ?_
  refine xw_getS (b := sl) (pc := 9) fd_X2_14 dX2_scope_9 (by first | assumption | (simp [xE_setI, xsz_setI, xsl_setI, xtag_setI, xown_setI, xlen_setI, xE_setR, xsz_setR, xsl_setR, xtag_setR, xown_setR, xlen_setR, xE_setW, xsz_setW, xsl_setW, xtag_setW, xown_setW, xlen_setW, xi_setR, xi_setW, xr_setI, xr_setW, xww_setI, xww_setR, xi_setI, xr_setR, xww_setW, xE_new, xsz_new, xsl_new, p1, p2, p3, p4, xsub]; done) | (simp [xE_setI, xsz_setI, xsl_setI, xtag_setI, xown_setI, xlen_setI, xE_setR, xsz_setR, xsl_setR, xtag_setR, xown_setR, xlen_setR, xE_setW, xsz_setW, xsl_setW, xtag_setW, xown_setW, xlen_setW, xi_setR, xi_setW, xr_setI, xr_setW, xww_setI, xww_setR, xi_setI, xr_setR, xww_setW, xE_new, xsz_new, xsl_new, p1, p2, p3, p4] <;> rfl)) (by simp [xE_setI, xsz_setI, xsl_setI, xtag_setI, xown_setI, xlen_setI, xE_setR, xsz_setR, xsl_setR, xtag_setR, xown_setR, xlen_setR, xE_setW, xsz_setW, xsl_setW, xtag_setW, xown_setW, xlen_setW, xi_setR, xi_setW, xr_setI, xr_setW, xww_setI, xww_setR, xi_setI, xr_setR, xww_setW, xE_new, xsz_new, xsl_new, p1, p2, p3, p4]) ?_
  refine xw_iload_n (pc := 12) dX2_scope_12 1 rfl ?_
  refine xw_callV (pc := 13) (xr_V (as := [_]) ok_J2_get rfl (by decide) q911 q706 q707 (by rw [htl]; rfl) (by rw [htl]; rfl) dX2_scope_13 rfl rfl (Nat.le_of_ble_eq_true rfl)) (SP_J2_get p5 k hk) ?_
  refine xw_chkS (pc := 16) dX2_scope_16 (by rw [hc]; exact q504) (by rw [hc]; rfl) ?_
  refine xw_aret (pc := 19) (.object "PolicyNotation$Scope") dX2_scope_19 rfl ?_
  exact ⟨rfl, rfl⟩

theorem SP_X2_scope_F {d : Nat} {g : xG} {p o1 o2 o3 sl rl wl sa ra wa : Nat} {cs rs ws : List Nat} (hP : xPl g p o1 o2 o3 sl rl wl sa ra wa cs rs ws) (v : Int32) (hv : ¬ inR v (nI 0) (nI cs.length - nI 1) = true) : XM M_X2_scope (d + 7) [.ref p, .int v] g (xThr (xsz g) (xExc g 23)) := by
  have hP0 := hP
  obtain ⟨p1, p2, p3, p4, p5, p6, p7⟩ := hP
  have hlt := p5.2.2.2.2.2.2.2.1
  have hle := p5.2.2.2.2.2.2.1
  have htl := p5.1
  have hx := SP_X2_isScope (d := d + 5) hP0 (v := v)
  rw [Bool.eq_false_iff.mpr hv] at hx
  refine xm_of (by decide +kernel) (Nat.le_of_ble_eq_true rfl) ?_
  show XW _ _ 0 [(0, _), (1, _)] [] _ _
  refine xw_aload_n (pc := 0) dX2_scope_0 0 rfl ?_
  refine xw_iload_n (pc := 1) dX2_scope_1 1 rfl ?_
  refine xw_callV (pc := 2) (xr_V (as := [_]) ok_X2_isScope rfl (by decide) q1060 q1061 q1062 (by rw [p1]; rfl) (by rw [p1]; rfl) dX2_scope_2 rfl rfl (Nat.le_of_ble_eq_true rfl)) (hx) ?_
  refine xw_callX (pc := 5) (xr_SN (as := [_]) ok_X1_checkIndex rfl (by decide) q1065 q1066 dX2_scope_5 rfl rfl (Nat.le_of_ble_eq_true rfl)) (SP_X1_checkIndex_F) ?_
  exact xx_out0 rfl (by rw [xExc_tag]; decide) (by rw [xExc_tag]; decide) (by rw [xExc_own]; decide) ⟨rfl, rfl⟩

theorem SP_X2_work {d : Nat} {g : xG} {p o1 o2 o3 sl rl wl sa ra wa : Nat} {cs rs ws : List Nat} (hP : xPl g p o1 o2 o3 sl rl wl sa ra wa cs rs ws) (k : Nat) (hk : k < ws.length) (hc : xtag g (ws.getD k 0) = 14) : XM M_X2_work (d + 3) [.ref p, .int (nI k)] g (xOne (some (.ref (ws.getD k 0))) g) := by
  have hP0 := hP
  obtain ⟨p1, p2, p3, p4, p5, p6, p7⟩ := hP
  have hlt := p7.2.2.2.2.2.2.2.1
  have hle := p7.2.2.2.2.2.2.1
  have htl := p7.1
  have hx := SP_X2_isWork (d := d + 1) hP0 (v := nI k)
  rw [inR_k (by omega) hk] at hx
  refine xm_of (by decide +kernel) (Nat.le_of_ble_eq_true rfl) ?_
  show XW _ _ 0 [(0, _), (1, _)] [] _ _
  refine xw_aload_n (pc := 0) dX2_work_0 0 rfl ?_
  refine xw_iload_n (pc := 1) dX2_work_1 1 rfl ?_
  refine xw_callV (pc := 2) (xr_V (as := [_]) ok_X2_isWork rfl (by decide) q1664 q1665 q1666 (by rw [p1]; rfl) (by rw [p1]; rfl) dX2_work_2 rfl rfl (Nat.le_of_ble_eq_true rfl)) (hx) ?_
  refine xw_callU (pc := 5) (xr_SN (as := [_]) ok_X1_checkIndex rfl (by decide) q1065 q1066 dX2_work_5 rfl rfl (Nat.le_of_ble_eq_true rfl)) (SP_X1_checkIndex_T) ?_
  refine xw_aload_n (pc := 8) dX2_work_8 0 rfl ?_
  refine xw_getS (b := wl) (pc := 9) fd_X2_23 dX2_work_9 (by first | assumption | (simp [xE_setI, xsz_setI, xsl_setI, xtag_setI, xown_setI, xlen_setI, xE_setR, xsz_setR, xsl_setR, xtag_setR, xown_setR, xlen_setR, xE_setW, xsz_setW, xsl_setW, xtag_setW, xown_setW, xlen_setW, xi_setR, xi_setW, xr_setI, xr_setW, xww_setI, xww_setR, xi_setI, xr_setR, xww_setW, xE_new, xsz_new, xsl_new, p1, p2, p3, p4, xsub]; done) | (simp [xE_setI, xsz_setI, xsl_setI, xtag_setI, xown_setI, xlen_setI, xE_setR, xsz_setR, xsl_setR, xtag_setR, xown_setR, xlen_setR, xE_setW, xsz_setW, xsl_setW, xtag_setW, xown_setW, xlen_setW, xi_setR, xi_setW, xr_setI, xr_setW, xww_setI, xww_setR, xi_setI, xr_setR, xww_setW, xE_new, xsz_new, xsl_new, p1, p2, p3, p4] <;> rfl)) (by simp [xE_setI, xsz_setI, xsl_setI, xtag_setI, xown_setI, xlen_setI, xE_setR, xsz_setR, xsl_setR, xtag_setR, xown_setR, xlen_setR, xE_setW, xsz_setW, xsl_setW, xtag_setW, xown_setW, xlen_setW, xi_setR, xi_setW, xr_setI, xr_setW, xww_setI, xww_setR, xi_setI, xr_setR, xww_setW, xE_new, xsz_new, xsl_new, p1, p2, p3, p4]) ?_
  refine xw_iload_n (pc := 12) dX2_work_12 1 rfl ?_
  refine xw_callV (pc := 13) (xr_V (as := [_]) ok_J2_get rfl (by decide) q911 q706 q707 (by rw [htl]; rfl) (by rw [htl]; rfl) dX2_work_13 rfl rfl (Nat.le_of_ble_eq_true rfl)) (SP_J2_get p7 k hk) ?_
  refine xw_chkS (pc := 16) dX2_work_16 (by rw [hc]; exact q1028) (by rw [hc]; rfl) ?_
  refine xw_aret (pc := 19) (.object "PolicyNotation$Work") dX2_work_19 rfl ?_
  exact ⟨rfl, rfl⟩

theorem SP_X2_work_F {d : Nat} {g : xG} {p o1 o2 o3 sl rl wl sa ra wa : Nat} {cs rs ws : List Nat} (hP : xPl g p o1 o2 o3 sl rl wl sa ra wa cs rs ws) (v : Int32) (hv : ¬ inR v (nI 0) (nI ws.length - nI 1) = true) : XM M_X2_work (d + 7) [.ref p, .int v] g (xThr (xsz g) (xExc g 23)) := by
  have hP0 := hP
  obtain ⟨p1, p2, p3, p4, p5, p6, p7⟩ := hP
  have hlt := p7.2.2.2.2.2.2.2.1
  have hle := p7.2.2.2.2.2.2.1
  have htl := p7.1
  have hx := SP_X2_isWork (d := d + 5) hP0 (v := v)
  rw [Bool.eq_false_iff.mpr hv] at hx
  refine xm_of (by decide +kernel) (Nat.le_of_ble_eq_true rfl) ?_
  show XW _ _ 0 [(0, _), (1, _)] [] _ _
  refine xw_aload_n (pc := 0) dX2_work_0 0 rfl ?_
  refine xw_iload_n (pc := 1) dX2_work_1 1 rfl ?_
  refine xw_callV (pc := 2) (xr_V (as := [_]) ok_X2_isWork rfl (by decide) q1664 q1665 q1666 (by rw [p1]; rfl) (by rw [p1]; rfl) dX2_work_2 rfl rfl (Nat.le_of_ble_eq_true rfl)) (hx) ?_
  refine xw_callX (pc := 5) (xr_SN (as := [_]) ok_X1_checkIndex rfl (by decide) q1065 q1066 dX2_work_5 rfl rfl (Nat.le_of_ble_eq_true rfl)) (SP_X1_checkIndex_F) ?_
  exact xx_out0 rfl (by rw [xExc_tag]; decide) (by rw [xExc_tag]; decide) (by rw [xExc_own]; decide) ⟨rfl, rfl⟩

theorem SP_X2_rule {d : Nat} {g : xG} {p o1 o2 o3 sl rl wl sa ra wa : Nat} {cs rs ws : List Nat} (hP : xPl g p o1 o2 o3 sl rl wl sa ra wa cs rs ws) (k : Nat) (hk : k < rs.length) (hc : xtag g (rs.getD k 0) = 6 ∨ xtag g (rs.getD k 0) = 7) : XM M_X2_rule (d + 3) [.ref p, .int (nI k)] g (xOne (some (.ref (rs.getD k 0))) g) := by
  have hP0 := hP
  obtain ⟨p1, p2, p3, p4, p5, p6, p7⟩ := hP
  have hlt := p6.2.2.2.2.2.2.2.1
  have hle := p6.2.2.2.2.2.2.1
  have htl := p6.1
  have hx := SP_X2_isRule (d := d + 1) hP0 (v := nI k)
  rw [inR_k (by omega) hk] at hx
  refine xm_of (by decide +kernel) (Nat.le_of_ble_eq_true rfl) ?_
  show XW _ _ 0 [(0, _), (1, _)] [] _ _
  refine xw_aload_n (pc := 0) dX2_rule_0 0 rfl ?_
  refine xw_iload_n (pc := 1) dX2_rule_1 1 rfl ?_
  refine xw_callV (pc := 2) (xr_V (as := [_]) ok_X2_isRule rfl (by decide) q1342 q1343 q1344 (by rw [p1]; rfl) (by rw [p1]; rfl) dX2_rule_2 rfl rfl (Nat.le_of_ble_eq_true rfl)) (hx) ?_
  refine xw_callU (pc := 5) (xr_SN (as := [_]) ok_X1_checkIndex rfl (by decide) q1065 q1066 dX2_rule_5 rfl rfl (Nat.le_of_ble_eq_true rfl)) (SP_X1_checkIndex_T) ?_
  refine xw_aload_n (pc := 8) dX2_rule_8 0 rfl ?_
  refine xw_getS (b := rl) (pc := 9) fd_X2_20 dX2_rule_9 (by first | assumption | (simp [xE_setI, xsz_setI, xsl_setI, xtag_setI, xown_setI, xlen_setI, xE_setR, xsz_setR, xsl_setR, xtag_setR, xown_setR, xlen_setR, xE_setW, xsz_setW, xsl_setW, xtag_setW, xown_setW, xlen_setW, xi_setR, xi_setW, xr_setI, xr_setW, xww_setI, xww_setR, xi_setI, xr_setR, xww_setW, xE_new, xsz_new, xsl_new, p1, p2, p3, p4, xsub]; done) | (simp [xE_setI, xsz_setI, xsl_setI, xtag_setI, xown_setI, xlen_setI, xE_setR, xsz_setR, xsl_setR, xtag_setR, xown_setR, xlen_setR, xE_setW, xsz_setW, xsl_setW, xtag_setW, xown_setW, xlen_setW, xi_setR, xi_setW, xr_setI, xr_setW, xww_setI, xww_setR, xi_setI, xr_setR, xww_setW, xE_new, xsz_new, xsl_new, p1, p2, p3, p4] <;> rfl)) (by simp [xE_setI, xsz_setI, xsl_setI, xtag_setI, xown_setI, xlen_setI, xE_setR, xsz_setR, xsl_setR, xtag_setR, xown_setR, xlen_setR, xE_setW, xsz_setW, xsl_setW, xtag_setW, xown_setW, xlen_setW, xi_setR, xi_setW, xr_setI, xr_setW, xww_setI, xww_setR, xi_setI, xr_setR, xww_setW, xE_new, xsz_new, xsl_new, p1, p2, p3, p4]) ?_
  refine xw_iload_n (pc := 12) dX2_rule_12 1 rfl ?_
  refine xw_callV (pc := 13) (xr_V (as := [_]) ok_J2_get rfl (by decide) q911 q706 q707 (by rw [htl]; rfl) (by rw [htl]; rfl) dX2_rule_13 rfl rfl (Nat.le_of_ble_eq_true rfl)) (SP_J2_get p6 k hk) ?_
  refine xw_chkR (pc := 16) dX2_rule_16 q912 (by exact hc) ?_
  refine xw_aret (pc := 19) (.object "PolicyNotation$Rule") dX2_rule_19 rfl ?_
  exact ⟨rfl, rfl⟩

theorem SP_X2_rule_F {d : Nat} {g : xG} {p o1 o2 o3 sl rl wl sa ra wa : Nat} {cs rs ws : List Nat} (hP : xPl g p o1 o2 o3 sl rl wl sa ra wa cs rs ws) (v : Int32) (hv : ¬ inR v (nI 0) (nI rs.length - nI 1) = true) : XM M_X2_rule (d + 7) [.ref p, .int v] g (xThr (xsz g) (xExc g 23)) := by
  have hP0 := hP
  obtain ⟨p1, p2, p3, p4, p5, p6, p7⟩ := hP
  have hlt := p6.2.2.2.2.2.2.2.1
  have hle := p6.2.2.2.2.2.2.1
  have htl := p6.1
  have hx := SP_X2_isRule (d := d + 5) hP0 (v := v)
  rw [Bool.eq_false_iff.mpr hv] at hx
  refine xm_of (by decide +kernel) (Nat.le_of_ble_eq_true rfl) ?_
  show XW _ _ 0 [(0, _), (1, _)] [] _ _
  refine xw_aload_n (pc := 0) dX2_rule_0 0 rfl ?_
  refine xw_iload_n (pc := 1) dX2_rule_1 1 rfl ?_
  refine xw_callV (pc := 2) (xr_V (as := [_]) ok_X2_isRule rfl (by decide) q1342 q1343 q1344 (by rw [p1]; rfl) (by rw [p1]; rfl) dX2_rule_2 rfl rfl (Nat.le_of_ble_eq_true rfl)) (hx) ?_
  refine xw_callX (pc := 5) (xr_SN (as := [_]) ok_X1_checkIndex rfl (by decide) q1065 q1066 dX2_rule_5 rfl rfl (Nat.le_of_ble_eq_true rfl)) (SP_X1_checkIndex_F) ?_
  exact xx_out0 rfl (by rw [xExc_tag]; decide) (by rw [xExc_tag]; decide) (by rw [xExc_own]; decide) ⟨rfl, rfl⟩

