/-! CLASS 10: a look forgets -/
set_option maxRecDepth 100000
/-- the first k ints of the array a are 0 -/
def xClr (g : xG) (a k : Nat) : xG := xPut g a (xcI (xc g a) (fun j => if j < k then nI 0 else xi g a j))
theorem xClr_c {g : xG} {a k b : Nat} (h : b ≠ a) : xc (xClr g a k) b = xc g b := xc_putN h
theorem xClr_a {g : xG} {a k : Nat} (h : a < xsz g) : xc (xClr g a k) a = xcI (xc g a) (fun j => if j < k then nI 0 else xi g a j) := xc_put h
theorem xClr_S {g : xG} {a k : Nat} (h : a < xsz g) : xsetI (xClr g a k) a k (nI 0) = xClr g a (k + 1) := by
  unfold xsetI
  rw [xClr_a h]
  unfold xClr xPut
  refine congrArg (fun f => (g.1, g.2.1, g.2.2.1, f)) (funext fun b => ?_)
  show (if b = a then _ else (if b = a then _ else _)) = _
  by_cases hb : b = a
  · rw [if_pos hb, if_pos hb]
    refine congrArg (xcI (xc g a)) (funext fun j => ?_)
    show (if j = k then nI 0 else (if j < k then nI 0 else xi g a j)) = _
    by_cases hj : j = k
    · rw [if_pos hj, if_pos (by omega)]
    · rw [if_neg hj]
      by_cases hl : j < k
      · rw [if_pos hl, if_pos (by omega)]
      · rw [if_neg hl, if_neg (by omega)]
  · rw [if_neg hb, if_neg hb, if_neg hb]
theorem lp_X5_forgets {d : Nat} {g : xG} {lk ka : Nat} {Q : Option Value ⊕ Nat → xG → Prop} (h1 : xtag g lk = 4) (h2 : xr g lk 1 = some ka) (h3 : xtag g ka = 101) (h4 : xlen g ka = 16) (h5 : xown g ka ≠ 0) (hq : Q (.inl none) (xClr g ka 16)) : ∀ (j k : Nat), 16 - k < j → k ≤ 16 → XW M_X5_forgets d 2 [(1, .int (nI k)), (0, .ref lk)] [] (xClr g ka k) Q := by
  intro j
  induction j with
  | zero => intro k h; omega
  | succ j ih =>
  intro k hj hk
  have hka : ka < xsz g := xlt (by rw [h3]; decide)
  have hne : lk ≠ ka := fun e => by rw [e, h3] at h1; cases h1
  have e1 : xtag (xClr g ka k) lk = 4 := by unfold xtag; rw [xClr_c hne]; exact h1
  have e2 : xr (xClr g ka k) lk 1 = some ka := by unfold xr; rw [xClr_c hne]; exact h2
  have e3 : xtag (xClr g ka k) ka = 101 := by unfold xtag; rw [xClr_a hka]; exact h3
  have e4 : xlen (xClr g ka k) ka = 16 := by unfold xlen; rw [xClr_a hka]; exact h4
  have e5 : xown (xClr g ka k) ka ≠ 0 := by unfold xown; rw [xClr_a hka]; exact h5
  refine xw_iload_n (pc := 2) dX5_forgets_2 0 rfl ?_
  refine xw_bipush (v := nI 16) (pc := 3) dX5_forgets_3 (by decide +kernel) ?_
  refine xw_icmp_ge (pc := 5) 21 dX5_forgets_5 rfl (fun hb5 => ?_) (fun hb5 => ?_)
  · replace hb5 : 16 ≤ k := (nI_leI (a := 16) (b := k) (by omega) (by omega)).mp hb5
    refine xw_vret (pc := 21) dX5_forgets_21 rfl ?_
    obtain rfl : k = 16 := by omega
    exact hq
  · replace hb5 : ¬ (16 ≤ k) := mt (nI_leI (a := 16) (b := k) (by omega) (by omega)).mpr hb5
    refine xw_aload_n (pc := 8) dX5_forgets_8 1 rfl ?_
    refine xw_getS (b := ka) (pc := 9) fd_X5_19 dX5_forgets_9 (by first | assumption | (simp [xE_setI, xsz_setI, xsl_setI, xtag_setI, xown_setI, xlen_setI, xE_setR, xsz_setR, xsl_setR, xtag_setR, xown_setR, xlen_setR, xE_setW, xsz_setW, xsl_setW, xtag_setW, xown_setW, xlen_setW, xi_setR, xi_setW, xr_setI, xr_setW, xww_setI, xww_setR, xi_setI, xr_setR, xww_setW, xE_new, xsz_new, xsl_new, e1, e2, e3, e4, xsub]; done) | (simp [xE_setI, xsz_setI, xsl_setI, xtag_setI, xown_setI, xlen_setI, xE_setR, xsz_setR, xsl_setR, xtag_setR, xown_setR, xlen_setR, xE_setW, xsz_setW, xsl_setW, xtag_setW, xown_setW, xlen_setW, xi_setR, xi_setW, xr_setI, xr_setW, xww_setI, xww_setR, xi_setI, xr_setR, xww_setW, xE_new, xsz_new, xsl_new, e1, e2, e3, e4] <;> rfl)) (by simp [xE_setI, xsz_setI, xsl_setI, xtag_setI, xown_setI, xlen_setI, xE_setR, xsz_setR, xsl_setR, xtag_setR, xown_setR, xlen_setR, xE_setW, xsz_setW, xsl_setW, xtag_setW, xown_setW, xlen_setW, xi_setR, xi_setW, xr_setI, xr_setW, xww_setI, xww_setR, xi_setI, xr_setR, xww_setW, xE_new, xsz_new, xsl_new, e1, e2, e3, e4]) ?_
    refine xw_iload_n (pc := 12) dX5_forgets_12 0 rfl ?_
    refine xw_iconst (v := nI 0) (pc := 13) dX5_forgets_13 rfl ?_
    refine xw_iast (k := k) (pc := 14) dX5_forgets_14 (by simp [xE_setI, xsz_setI, xsl_setI, xtag_setI, xown_setI, xlen_setI, xE_setR, xsz_setR, xsl_setR, xtag_setR, xown_setR, xlen_setR, xE_setW, xsz_setW, xsl_setW, xtag_setW, xown_setW, xlen_setW, xi_setR, xi_setW, xr_setI, xr_setW, xww_setI, xww_setR, xi_setI, xr_setR, xww_setW, xE_new, xsz_new, xsl_new, e1, e2, e3, e4]) (by first | assumption | (simp [xE_setI, xsz_setI, xsl_setI, xtag_setI, xown_setI, xlen_setI, xE_setR, xsz_setR, xsl_setR, xtag_setR, xown_setR, xlen_setR, xE_setW, xsz_setW, xsl_setW, xtag_setW, xown_setW, xlen_setW, xi_setR, xi_setW, xr_setI, xr_setW, xww_setI, xww_setR, xi_setI, xr_setR, xww_setW, xE_new, xsz_new, xsl_new, e1, e2, e3, e4]; done) | (simp [xE_setI, xsz_setI, xsl_setI, xtag_setI, xown_setI, xlen_setI, xE_setR, xsz_setR, xsl_setR, xtag_setR, xown_setR, xlen_setR, xE_setW, xsz_setW, xsl_setW, xtag_setW, xown_setW, xlen_setW, xi_setR, xi_setW, xr_setI, xr_setW, xww_setI, xww_setR, xi_setI, xr_setR, xww_setW, xE_new, xsz_new, xsl_new, e1, e2, e3, e4]; assumption)) rfl (by rw [e4]; omega) ?_
    refine xw_iinc (v := nI (k + 1)) (l' := [(1, _), (0, _)]) (pc := 15) dX5_forgets_15 0 rfl (nI_add _ 1) (by decide) rfl ?_
    refine xw_goto (pc := 18) 2 dX5_forgets_18 rfl ?_
    rw [xClr_S hka]
    exact ih (k + 1) (by omega) (by omega)
theorem xClr_0 {g : xG} {a : Nat} : ∀ b, xc (xClr g a 0) b = xc g b := by
  intro b
  by_cases hb : b = a
  · subst hb
    by_cases h : b < xsz g
    · rw [xClr_a h]
      rfl
    · unfold xc
      rw [if_neg h, if_neg (show ¬ b < xsz (xClr g b 0) from h)]
  · exact xClr_c hb
theorem SP_X5_forgets {d : Nat} {g : xG} {lk ka : Nat} (h1 : xtag g lk = 4) (h2 : xr g lk 1 = some ka) (h3 : xtag g ka = 101) (h4 : xlen g ka = 16) (h5 : xown g ka ≠ 0) : XM M_X5_forgets d [.ref lk] g (xOne none (xClr g ka 16)) := by
  refine xm_of (by decide +kernel) (Nat.le_of_ble_eq_true rfl) ?_
  show XW _ _ 0 [(0, _)] [] _ _
  refine xw_iconst (v := nI 0) (pc := 0) dX5_forgets_0 rfl ?_
  refine xw_istore_n (l' := [(1, _), (0, _)]) (pc := 1) dX5_forgets_1 rfl (by decide) rfl ?_
  refine XW.eqv (g' := xClr g ka 0) ⟨rfl, rfl, rfl, fun b => (xClr_0 b).symm⟩ ?_
  exact lp_X5_forgets h1 h2 h3 h4 h5 ⟨rfl, rfl⟩ 17 0 (by omega) (by omega)
