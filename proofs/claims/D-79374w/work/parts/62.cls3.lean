/-! CLASS 3: scopes -/
set_option maxRecDepth 100000
/-- the constant of an effect's number; none -/
def effO (g : xG) (v : Int32) : Option Nat := if v = nI 0 then some ((xE g).2.2.1 0) else if v = nI 1 then some ((xE g).2.2.1 1) else if v = nI 2 then some ((xE g).2.2.1 2) else none
/-- the objects of the scopes: cs i is the i-th -/
def xSc (g : xG) (s : Nat → Int32) (n : Nat) (cs : Nat → Nat) : Prop := ∀ i, i < n → xtag g (cs i) = 3 ∧ xi g (cs i) 1 = nI i ∧ xr g (cs i) 0 = (if i = 0 then none else some (cs (ou s i))) ∧ xr g (cs i) 2 = effO g (s (4 + 2 * i))
theorem SP_X3_isWithin {g : xG} {s : Nat → Int32} {n : Nat} {cs : Nat → Nat} (hS : xSc g s n cs) (hW : WFo s n) (hn : n ≤ 10) (o : Nat) (ho : o < 20) : ∀ (i : Nat), i < n → ∀ d, i ≤ d → XM M_X3_isWithin d [.ref (cs i), .int (nI o)] g (xOne (some (.int (bI (wit s i o)))) g) := by
  intro i
  induction i using Nat.strongRecOn with
  | _ i ih =>
  intro hi d hd
  obtain ⟨t1, t2, t3, t4⟩ := hS i hi
  by_cases h0 : i = 0
  · subst h0
    rw [if_pos rfl] at t3
    refine xm_of (by decide +kernel) (Nat.le_of_ble_eq_true rfl) ?_
    show XW _ _ 0 [(0, _), (1, _)] [] _ _
    refine xw_aload_n (pc := 0) dX3_isWithin_0 0 rfl ?_
    refine xw_getNat (k := 0) (pc := 1) fd_X3_13 dX3_isWithin_1 (by first | assumption | (simp [xE_setI, xsz_setI, xsl_setI, xtag_setI, xown_setI, xlen_setI, xE_setR, xsz_setR, xsl_setR, xtag_setR, xown_setR, xlen_setR, xE_setW, xsz_setW, xsl_setW, xtag_setW, xown_setW, xlen_setW, xi_setR, xi_setW, xr_setI, xr_setW, xww_setI, xww_setR, xi_setI, xr_setR, xww_setW, xE_new, xsz_new, xsl_new, t1, t2, t3, xsub]; done) | (simp [xE_setI, xsz_setI, xsl_setI, xtag_setI, xown_setI, xlen_setI, xE_setR, xsz_setR, xsl_setR, xtag_setR, xown_setR, xlen_setR, xE_setW, xsz_setW, xsl_setW, xtag_setW, xown_setW, xlen_setW, xi_setR, xi_setW, xr_setI, xr_setW, xww_setI, xww_setR, xi_setI, xr_setR, xww_setW, xE_new, xsz_new, xsl_new, t1, t2, t3] <;> rfl)) (by simp [xE_setI, xsz_setI, xsl_setI, xtag_setI, xown_setI, xlen_setI, xE_setR, xsz_setR, xsl_setR, xtag_setR, xown_setR, xlen_setR, xE_setW, xsz_setW, xsl_setW, xtag_setW, xown_setW, xlen_setW, xi_setR, xi_setW, xr_setI, xr_setW, xww_setI, xww_setR, xi_setI, xr_setR, xww_setW, xE_new, xsz_new, xsl_new, t1, t2, t3]) ?_
    refine xw_iload_n (pc := 4) dX3_isWithin_4 1 rfl ?_
    refine xw_icmp_eq (pc := 5) 26 dX3_isWithin_5 rfl (fun hb5 => ?_) (fun hb5 => ?_)
    · replace hb5 : 0 = o := (nI_eq (a := 0) (b := o) (by omega) (by omega)).mp hb5
      refine xw_iconst (v := nI 1) (pc := 26) dX3_isWithin_26 rfl ?_
      refine xw_goto (pc := 27) 31 dX3_isWithin_27 rfl ?_
      refine xw_iret (pc := 31) .boolean dX3_isWithin_31 rfl ?_ 
      refine ⟨congrArg (fun x => Sum.inl (some (Value.int x))) ?_, rfl⟩
      first | (rw [wit, if_pos hb5]; rfl) | (rw [wit, if_neg hb5, dif_neg (by omega)]; rfl)
    · replace hb5 : ¬ (0 = o) := mt (nI_eq (a := 0) (b := o) (by omega) (by omega)).mpr hb5
      refine xw_aload_n (pc := 8) dX3_isWithin_8 0 rfl ?_
      refine xw_getN (pc := 9) fd_X3_7 dX3_isWithin_9 (by first | assumption | (simp [xE_setI, xsz_setI, xsl_setI, xtag_setI, xown_setI, xlen_setI, xE_setR, xsz_setR, xsl_setR, xtag_setR, xown_setR, xlen_setR, xE_setW, xsz_setW, xsl_setW, xtag_setW, xown_setW, xlen_setW, xi_setR, xi_setW, xr_setI, xr_setW, xww_setI, xww_setR, xi_setI, xr_setR, xww_setW, xE_new, xsz_new, xsl_new, t1, t2, t3, xsub]; done) | (simp [xE_setI, xsz_setI, xsl_setI, xtag_setI, xown_setI, xlen_setI, xE_setR, xsz_setR, xsl_setR, xtag_setR, xown_setR, xlen_setR, xE_setW, xsz_setW, xsl_setW, xtag_setW, xown_setW, xlen_setW, xi_setR, xi_setW, xr_setI, xr_setW, xww_setI, xww_setR, xi_setI, xr_setR, xww_setW, xE_new, xsz_new, xsl_new, t1, t2, t3] <;> rfl)) (by simp [xE_setI, xsz_setI, xsl_setI, xtag_setI, xown_setI, xlen_setI, xE_setR, xsz_setR, xsl_setR, xtag_setR, xown_setR, xlen_setR, xE_setW, xsz_setW, xsl_setW, xtag_setW, xown_setW, xlen_setW, xi_setR, xi_setW, xr_setI, xr_setW, xww_setI, xww_setR, xi_setI, xr_setR, xww_setW, xE_new, xsz_new, xsl_new, t1, t2, t3]) ?_
      refine xw_ifnullN (pc := 12) 30 dX3_isWithin_12 rfl ?_
      refine xw_iconst (v := nI 0) (pc := 30) dX3_isWithin_30 rfl ?_
      refine xw_iret (pc := 31) .boolean dX3_isWithin_31 rfl ?_ 
      refine ⟨congrArg (fun x => Sum.inl (some (Value.int x))) ?_, rfl⟩
      first | (rw [wit, if_pos hb5]; rfl) | (rw [wit, if_neg hb5, dif_neg (by omega)]; rfl)
  · rw [if_neg h0] at t3
    obtain ⟨h1, h2⟩ := hW.2 i (by omega) hi
    obtain ⟨d', rfl⟩ : ∃ d', d = d' + 1 := ⟨d - 1, by omega⟩
    have hx := ih (ou s i) h2 (by omega) d' (by omega)
    have tp := (hS (ou s i) (by omega)).1
    refine xm_of (by decide +kernel) (Nat.le_of_ble_eq_true rfl) ?_
    show XW _ _ 0 [(0, _), (1, _)] [] _ _
    refine xw_aload_n (pc := 0) dX3_isWithin_0 0 rfl ?_
    refine xw_getNat (k := i) (pc := 1) fd_X3_13 dX3_isWithin_1 (by first | assumption | (simp [xE_setI, xsz_setI, xsl_setI, xtag_setI, xown_setI, xlen_setI, xE_setR, xsz_setR, xsl_setR, xtag_setR, xown_setR, xlen_setR, xE_setW, xsz_setW, xsl_setW, xtag_setW, xown_setW, xlen_setW, xi_setR, xi_setW, xr_setI, xr_setW, xww_setI, xww_setR, xi_setI, xr_setR, xww_setW, xE_new, xsz_new, xsl_new, t1, t2, t3, xsub]; done) | (simp [xE_setI, xsz_setI, xsl_setI, xtag_setI, xown_setI, xlen_setI, xE_setR, xsz_setR, xsl_setR, xtag_setR, xown_setR, xlen_setR, xE_setW, xsz_setW, xsl_setW, xtag_setW, xown_setW, xlen_setW, xi_setR, xi_setW, xr_setI, xr_setW, xww_setI, xww_setR, xi_setI, xr_setR, xww_setW, xE_new, xsz_new, xsl_new, t1, t2, t3] <;> rfl)) (by simp [xE_setI, xsz_setI, xsl_setI, xtag_setI, xown_setI, xlen_setI, xE_setR, xsz_setR, xsl_setR, xtag_setR, xown_setR, xlen_setR, xE_setW, xsz_setW, xsl_setW, xtag_setW, xown_setW, xlen_setW, xi_setR, xi_setW, xr_setI, xr_setW, xww_setI, xww_setR, xi_setI, xr_setR, xww_setW, xE_new, xsz_new, xsl_new, t1, t2, t3]) ?_
    refine xw_iload_n (pc := 4) dX3_isWithin_4 1 rfl ?_
    refine xw_icmp_eq (pc := 5) 26 dX3_isWithin_5 rfl (fun hb5 => ?_) (fun hb5 => ?_)
    · replace hb5 : i = o := (nI_eq (a := i) (b := o) (by omega) (by omega)).mp hb5
      refine xw_iconst (v := nI 1) (pc := 26) dX3_isWithin_26 rfl ?_
      refine xw_goto (pc := 27) 31 dX3_isWithin_27 rfl ?_
      refine xw_iret (pc := 31) .boolean dX3_isWithin_31 rfl ?_ 
      first
        | (refine ⟨congrArg (fun x => Sum.inl (some (Value.int x))) ?_, rfl⟩; rw [wit, if_pos hb5]; rfl)
        | (rw [wit, if_neg hb5, dif_pos ⟨by omega, h2⟩, hb23]; exact ⟨rfl, rfl⟩)
    · replace hb5 : ¬ (i = o) := mt (nI_eq (a := i) (b := o) (by omega) (by omega)).mpr hb5
      refine xw_aload_n (pc := 8) dX3_isWithin_8 0 rfl ?_
      refine xw_getS (b := (cs (ou s i))) (pc := 9) fd_X3_7 dX3_isWithin_9 (by first | assumption | (simp [xE_setI, xsz_setI, xsl_setI, xtag_setI, xown_setI, xlen_setI, xE_setR, xsz_setR, xsl_setR, xtag_setR, xown_setR, xlen_setR, xE_setW, xsz_setW, xsl_setW, xtag_setW, xown_setW, xlen_setW, xi_setR, xi_setW, xr_setI, xr_setW, xww_setI, xww_setR, xi_setI, xr_setR, xww_setW, xE_new, xsz_new, xsl_new, t1, t2, t3, xsub]; done) | (simp [xE_setI, xsz_setI, xsl_setI, xtag_setI, xown_setI, xlen_setI, xE_setR, xsz_setR, xsl_setR, xtag_setR, xown_setR, xlen_setR, xE_setW, xsz_setW, xsl_setW, xtag_setW, xown_setW, xlen_setW, xi_setR, xi_setW, xr_setI, xr_setW, xww_setI, xww_setR, xi_setI, xr_setR, xww_setW, xE_new, xsz_new, xsl_new, t1, t2, t3] <;> rfl)) (by simp [xE_setI, xsz_setI, xsl_setI, xtag_setI, xown_setI, xlen_setI, xE_setR, xsz_setR, xsl_setR, xtag_setR, xown_setR, xlen_setR, xE_setW, xsz_setW, xsl_setW, xtag_setW, xown_setW, xlen_setW, xi_setR, xi_setW, xr_setI, xr_setW, xww_setI, xww_setR, xi_setI, xr_setR, xww_setW, xE_new, xsz_new, xsl_new, t1, t2, t3]) ?_
      refine xw_ifnull (pc := 12) dX3_isWithin_12 ?_
      refine xw_aload_n (pc := 15) dX3_isWithin_15 0 rfl ?_
      refine xw_getS (b := (cs (ou s i))) (pc := 16) fd_X3_7 dX3_isWithin_16 (by first | assumption | (simp [xE_setI, xsz_setI, xsl_setI, xtag_setI, xown_setI, xlen_setI, xE_setR, xsz_setR, xsl_setR, xtag_setR, xown_setR, xlen_setR, xE_setW, xsz_setW, xsl_setW, xtag_setW, xown_setW, xlen_setW, xi_setR, xi_setW, xr_setI, xr_setW, xww_setI, xww_setR, xi_setI, xr_setR, xww_setW, xE_new, xsz_new, xsl_new, t1, t2, t3, xsub]; done) | (simp [xE_setI, xsz_setI, xsl_setI, xtag_setI, xown_setI, xlen_setI, xE_setR, xsz_setR, xsl_setR, xtag_setR, xown_setR, xlen_setR, xE_setW, xsz_setW, xsl_setW, xtag_setW, xown_setW, xlen_setW, xi_setR, xi_setW, xr_setI, xr_setW, xww_setI, xww_setR, xi_setI, xr_setR, xww_setW, xE_new, xsz_new, xsl_new, t1, t2, t3] <;> rfl)) (by simp [xE_setI, xsz_setI, xsl_setI, xtag_setI, xown_setI, xlen_setI, xE_setR, xsz_setR, xsl_setR, xtag_setR, xown_setR, xlen_setR, xE_setW, xsz_setW, xsl_setW, xtag_setW, xown_setW, xlen_setW, xi_setR, xi_setW, xr_setI, xr_setW, xww_setI, xww_setR, xi_setI, xr_setR, xww_setW, xE_new, xsz_new, xsl_new, t1, t2, t3]) ?_
      refine xw_iload_n (pc := 19) dX3_isWithin_19 1 rfl ?_
      refine xw_callV (pc := 20) (xr_V (as := [_]) ok_X3_isWithin rfl (by decide) q790 q787 q788 (by rw [tp]; rfl) (by rw [tp]; rfl) dX3_isWithin_20 rfl rfl (Nat.le_of_ble_eq_true rfl)) (hx) ?_
      refine xw_if_eq (pc := 23) 30 dX3_isWithin_23 rfl (fun hb23 => ?_) (fun hb23 => ?_)
      · replace hb23 := bI_0.mp hb23
        refine xw_iconst (v := nI 0) (pc := 30) dX3_isWithin_30 rfl ?_
        refine xw_iret (pc := 31) .boolean dX3_isWithin_31 rfl ?_ 
        first
          | (refine ⟨congrArg (fun x => Sum.inl (some (Value.int x))) ?_, rfl⟩; rw [wit, if_pos hb5]; rfl)
          | (rw [wit, if_neg hb5, dif_pos ⟨by omega, h2⟩, hb23]; exact ⟨rfl, rfl⟩)
      · replace hb23 := bI_n0.mp hb23
        refine xw_iconst (v := nI 1) (pc := 26) dX3_isWithin_26 rfl ?_
        refine xw_goto (pc := 27) 31 dX3_isWithin_27 rfl ?_
        refine xw_iret (pc := 31) .boolean dX3_isWithin_31 rfl ?_ 
        first
          | (refine ⟨congrArg (fun x => Sum.inl (some (Value.int x))) ?_, rfl⟩; rw [wit, if_pos hb5]; rfl)
          | (rw [wit, if_neg hb5, dif_pos ⟨by omega, h2⟩, hb23]; exact ⟨rfl, rfl⟩)
theorem SP_X3_depth {g : xG} {s : Nat → Int32} {n : Nat} {cs : Nat → Nat} (hS : xSc g s n cs) (hW : WFo s n) (hn : n ≤ 10) : ∀ (i : Nat), i < n → ∀ d, i ≤ d → XM M_X3_depth d [.ref (cs i)] g (xOne (some (.int (nI (dep s i)))) g) := by
  intro i
  induction i using Nat.strongRecOn with
  | _ i ih =>
  intro hi d hd
  obtain ⟨t1, t2, t3, t4⟩ := hS i hi
  by_cases h0 : i = 0
  · subst h0
    rw [if_pos rfl] at t3
    refine xm_of (by decide +kernel) (Nat.le_of_ble_eq_true rfl) ?_
    show XW _ _ 0 [(0, _)] [] _ _
    refine xw_aload_n (pc := 0) dX3_depth_0 0 rfl ?_
    refine xw_getN (pc := 1) fd_X3_7 dX3_depth_1 (by first | assumption | (simp [xE_setI, xsz_setI, xsl_setI, xtag_setI, xown_setI, xlen_setI, xE_setR, xsz_setR, xsl_setR, xtag_setR, xown_setR, xlen_setR, xE_setW, xsz_setW, xsl_setW, xtag_setW, xown_setW, xlen_setW, xi_setR, xi_setW, xr_setI, xr_setW, xww_setI, xww_setR, xi_setI, xr_setR, xww_setW, xE_new, xsz_new, xsl_new, t1, t2, t3, xsub]; done) | (simp [xE_setI, xsz_setI, xsl_setI, xtag_setI, xown_setI, xlen_setI, xE_setR, xsz_setR, xsl_setR, xtag_setR, xown_setR, xlen_setR, xE_setW, xsz_setW, xsl_setW, xtag_setW, xown_setW, xlen_setW, xi_setR, xi_setW, xr_setI, xr_setW, xww_setI, xww_setR, xi_setI, xr_setR, xww_setW, xE_new, xsz_new, xsl_new, t1, t2, t3] <;> rfl)) (by simp [xE_setI, xsz_setI, xsl_setI, xtag_setI, xown_setI, xlen_setI, xE_setR, xsz_setR, xsl_setR, xtag_setR, xown_setR, xlen_setR, xE_setW, xsz_setW, xsl_setW, xtag_setW, xown_setW, xlen_setW, xi_setR, xi_setW, xr_setI, xr_setW, xww_setI, xww_setR, xi_setI, xr_setR, xww_setW, xE_new, xsz_new, xsl_new, t1, t2, t3]) ?_
    refine xw_ifnonnullN (pc := 4) dX3_depth_4 ?_
    refine xw_iconst (v := nI 0) (pc := 7) dX3_depth_7 rfl ?_
    refine xw_goto (pc := 8) 20 dX3_depth_8 rfl ?_
    refine xw_iret (pc := 20) .int dX3_depth_20 rfl ?_ 
    rw [dep, dif_neg (by omega)]
    exact ⟨rfl, rfl⟩
  · rw [if_neg h0] at t3
    obtain ⟨h1, h2⟩ := hW.2 i (by omega) hi
    obtain ⟨d', rfl⟩ : ∃ d', d = d' + 1 := ⟨d - 1, by omega⟩
    have hx := ih (ou s i) h2 (by omega) d' (by omega)
    have tp := (hS (ou s i) (by omega)).1
    refine xm_of (by decide +kernel) (Nat.le_of_ble_eq_true rfl) ?_
    show XW _ _ 0 [(0, _)] [] _ _
    refine xw_aload_n (pc := 0) dX3_depth_0 0 rfl ?_
    refine xw_getS (b := (cs (ou s i))) (pc := 1) fd_X3_7 dX3_depth_1 (by first | assumption | (simp [xE_setI, xsz_setI, xsl_setI, xtag_setI, xown_setI, xlen_setI, xE_setR, xsz_setR, xsl_setR, xtag_setR, xown_setR, xlen_setR, xE_setW, xsz_setW, xsl_setW, xtag_setW, xown_setW, xlen_setW, xi_setR, xi_setW, xr_setI, xr_setW, xww_setI, xww_setR, xi_setI, xr_setR, xww_setW, xE_new, xsz_new, xsl_new, t1, t2, t3, xsub]; done) | (simp [xE_setI, xsz_setI, xsl_setI, xtag_setI, xown_setI, xlen_setI, xE_setR, xsz_setR, xsl_setR, xtag_setR, xown_setR, xlen_setR, xE_setW, xsz_setW, xsl_setW, xtag_setW, xown_setW, xlen_setW, xi_setR, xi_setW, xr_setI, xr_setW, xww_setI, xww_setR, xi_setI, xr_setR, xww_setW, xE_new, xsz_new, xsl_new, t1, t2, t3] <;> rfl)) (by simp [xE_setI, xsz_setI, xsl_setI, xtag_setI, xown_setI, xlen_setI, xE_setR, xsz_setR, xsl_setR, xtag_setR, xown_setR, xlen_setR, xE_setW, xsz_setW, xsl_setW, xtag_setW, xown_setW, xlen_setW, xi_setR, xi_setW, xr_setI, xr_setW, xww_setI, xww_setR, xi_setI, xr_setR, xww_setW, xE_new, xsz_new, xsl_new, t1, t2, t3]) ?_
    refine xw_ifnonnull (pc := 4) 11 dX3_depth_4 rfl ?_
    refine xw_aload_n (pc := 11) dX3_depth_11 0 rfl ?_
    refine xw_getS (b := (cs (ou s i))) (pc := 12) fd_X3_7 dX3_depth_12 (by first | assumption | (simp [xE_setI, xsz_setI, xsl_setI, xtag_setI, xown_setI, xlen_setI, xE_setR, xsz_setR, xsl_setR, xtag_setR, xown_setR, xlen_setR, xE_setW, xsz_setW, xsl_setW, xtag_setW, xown_setW, xlen_setW, xi_setR, xi_setW, xr_setI, xr_setW, xww_setI, xww_setR, xi_setI, xr_setR, xww_setW, xE_new, xsz_new, xsl_new, t1, t2, t3, xsub]; done) | (simp [xE_setI, xsz_setI, xsl_setI, xtag_setI, xown_setI, xlen_setI, xE_setR, xsz_setR, xsl_setR, xtag_setR, xown_setR, xlen_setR, xE_setW, xsz_setW, xsl_setW, xtag_setW, xown_setW, xlen_setW, xi_setR, xi_setW, xr_setI, xr_setW, xww_setI, xww_setR, xi_setI, xr_setR, xww_setW, xE_new, xsz_new, xsl_new, t1, t2, t3] <;> rfl)) (by simp [xE_setI, xsz_setI, xsl_setI, xtag_setI, xown_setI, xlen_setI, xE_setR, xsz_setR, xsl_setR, xtag_setR, xown_setR, xlen_setR, xE_setW, xsz_setW, xsl_setW, xtag_setW, xown_setW, xlen_setW, xi_setR, xi_setW, xr_setI, xr_setW, xww_setI, xww_setR, xi_setI, xr_setR, xww_setW, xE_new, xsz_new, xsl_new, t1, t2, t3]) ?_
    refine xw_callV (pc := 15) (xr_V (as := []) ok_X3_depth rfl (by decide) q855 q852 q853 (by rw [tp]; rfl) (by rw [tp]; rfl) dX3_depth_15 rfl rfl (Nat.le_of_ble_eq_true rfl)) (hx) ?_
    refine xw_iconst (v := nI 1) (pc := 18) dX3_depth_18 rfl ?_
    refine xn_iadd (pc := 19) dX3_depth_19 ?_
    refine xw_iret (pc := 20) .int dX3_depth_20 rfl ?_ 
    rw [dep, dif_pos ⟨by omega, h2⟩]
    exact ⟨rfl, rfl⟩
theorem effO_some {g : xG} {v : Int32} (h : ¬ v < 0) (hv : v = -1 ∨ ∃ e, e < 3 ∧ v = nI e) : ∃ a, effO g v = some a := by
  rcases hv with rfl | ⟨e, he, rfl⟩
  · exact absurd (by decide) h
  · have : e = 0 ∨ e = 1 ∨ e = 2 := by omega
    rcases this with rfl | rfl | rfl
    · exact ⟨_, if_pos rfl⟩
    · exact ⟨_, (if_neg (by decide)).trans (if_pos rfl)⟩
    · exact ⟨_, ((if_neg (by decide)).trans (if_neg (by decide))).trans (if_pos rfl)⟩
theorem effO_none {g : xG} : effO g (-1) = none := by
  unfold effO
  rw [if_neg (by decide), if_neg (by decide), if_neg (by decide)]
/-- the scopes' own effects -/
def WFe (s : Nat → Int32) (n : Nat) : Prop := ¬ s 4 < 0 ∧ ∀ i, i < n → s (4 + 2 * i) = -1 ∨ ∃ e, e < 3 ∧ s (4 + 2 * i) = nI e
theorem SP_X3_counts {g : xG} {s : Nat → Int32} {n : Nat} {cs : Nat → Nat} (hS : xSc g s n cs) (hW : WFo s n) (hn : n ≤ 10) (hE : WFe s n) : ∀ (i : Nat), i < n → ∀ d, i ≤ d → XM M_X3_counts d [.ref (cs i)] g (xOne (some (xref (effO g (dfl s i)))) g) := by
  intro i
  induction i using Nat.strongRecOn with
  | _ i ih =>
  intro hi d hd
  obtain ⟨t1, t2, t3, t4⟩ := hS i hi
  by_cases hn0 : s (4 + 2 * i) < 0
  · have h0 : i ≠ 0 := by
      rintro rfl
      exact hE.1 hn0
    have hm : s (4 + 2 * i) = -1 := by
      rcases hE.2 i hi with h | ⟨e, he, h⟩
      · exact h
      · exact absurd hn0 (by rw [h]; exact nI_pos (by omega))
    rw [hm, effO_none] at t4
    rw [if_neg h0] at t3
    obtain ⟨h1, h2⟩ := hW.2 i (by omega) hi
    obtain ⟨d', rfl⟩ : ∃ d', d = d' + 1 := ⟨d - 1, by omega⟩
    have hx := ih (ou s i) h2 (by omega) d' (by omega)
    have tp := (hS (ou s i) (by omega)).1
    rw [dfl, dif_pos ⟨hn0, by omega, h2⟩]
    refine xm_of (by decide +kernel) (Nat.le_of_ble_eq_true rfl) ?_
    show XW _ _ 0 [(0, _)] [] _ _
    refine xw_aload_n (pc := 0) dX3_counts_0 0 rfl ?_
    refine xw_getN (pc := 1) fd_X3_17 dX3_counts_1 (by first | assumption | (simp [xE_setI, xsz_setI, xsl_setI, xtag_setI, xown_setI, xlen_setI, xE_setR, xsz_setR, xsl_setR, xtag_setR, xown_setR, xlen_setR, xE_setW, xsz_setW, xsl_setW, xtag_setW, xown_setW, xlen_setW, xi_setR, xi_setW, xr_setI, xr_setW, xww_setI, xww_setR, xi_setI, xr_setR, xww_setW, xE_new, xsz_new, xsl_new, t1, t2, t3, t4, xsub]; done) | (simp [xE_setI, xsz_setI, xsl_setI, xtag_setI, xown_setI, xlen_setI, xE_setR, xsz_setR, xsl_setR, xtag_setR, xown_setR, xlen_setR, xE_setW, xsz_setW, xsl_setW, xtag_setW, xown_setW, xlen_setW, xi_setR, xi_setW, xr_setI, xr_setW, xww_setI, xww_setR, xi_setI, xr_setR, xww_setW, xE_new, xsz_new, xsl_new, t1, t2, t3, t4] <;> rfl)) (by simp [xE_setI, xsz_setI, xsl_setI, xtag_setI, xown_setI, xlen_setI, xE_setR, xsz_setR, xsl_setR, xtag_setR, xown_setR, xlen_setR, xE_setW, xsz_setW, xsl_setW, xtag_setW, xown_setW, xlen_setW, xi_setR, xi_setW, xr_setI, xr_setW, xww_setI, xww_setR, xi_setI, xr_setR, xww_setW, xE_new, xsz_new, xsl_new, t1, t2, t3, t4]) ?_
    refine xw_ifnullN (pc := 4) 14 dX3_counts_4 rfl ?_
    refine xw_aload_n (pc := 14) dX3_counts_14 0 rfl ?_
    refine xw_getS (b := (cs (ou s i))) (pc := 15) fd_X3_7 dX3_counts_15 (by first | assumption | (simp [xE_setI, xsz_setI, xsl_setI, xtag_setI, xown_setI, xlen_setI, xE_setR, xsz_setR, xsl_setR, xtag_setR, xown_setR, xlen_setR, xE_setW, xsz_setW, xsl_setW, xtag_setW, xown_setW, xlen_setW, xi_setR, xi_setW, xr_setI, xr_setW, xww_setI, xww_setR, xi_setI, xr_setR, xww_setW, xE_new, xsz_new, xsl_new, t1, t2, t3, t4, xsub]; done) | (simp [xE_setI, xsz_setI, xsl_setI, xtag_setI, xown_setI, xlen_setI, xE_setR, xsz_setR, xsl_setR, xtag_setR, xown_setR, xlen_setR, xE_setW, xsz_setW, xsl_setW, xtag_setW, xown_setW, xlen_setW, xi_setR, xi_setW, xr_setI, xr_setW, xww_setI, xww_setR, xi_setI, xr_setR, xww_setW, xE_new, xsz_new, xsl_new, t1, t2, t3, t4] <;> rfl)) (by simp [xE_setI, xsz_setI, xsl_setI, xtag_setI, xown_setI, xlen_setI, xE_setR, xsz_setR, xsl_setR, xtag_setR, xown_setR, xlen_setR, xE_setW, xsz_setW, xsl_setW, xtag_setW, xown_setW, xlen_setW, xi_setR, xi_setW, xr_setI, xr_setW, xww_setI, xww_setR, xi_setI, xr_setR, xww_setW, xE_new, xsz_new, xsl_new, t1, t2, t3, t4]) ?_
    refine xw_callV (pc := 18) (xr_V (as := []) ok_X3_counts rfl (by decide) q860 q857 q858 (by rw [tp]; rfl) (by rw [tp]; rfl) dX3_counts_18 rfl rfl (Nat.le_of_ble_eq_true rfl)) (hx) ?_
    refine xw_aret (pc := 21) (.object "PolicyNotation$Effect") dX3_counts_21 rfl ?_
    exact ⟨rfl, rfl⟩
  · obtain ⟨a, ha⟩ := effO_some (g := g) hn0 (hE.2 i hi)
    rw [dfl, dif_neg (fun q => hn0 q.1), ha]
    rw [ha] at t4
    refine xm_of (by decide +kernel) (Nat.le_of_ble_eq_true rfl) ?_
    show XW _ _ 0 [(0, _)] [] _ _
    refine xw_aload_n (pc := 0) dX3_counts_0 0 rfl ?_
    refine xw_getS (b := a) (pc := 1) fd_X3_17 dX3_counts_1 (by first | assumption | (simp [xE_setI, xsz_setI, xsl_setI, xtag_setI, xown_setI, xlen_setI, xE_setR, xsz_setR, xsl_setR, xtag_setR, xown_setR, xlen_setR, xE_setW, xsz_setW, xsl_setW, xtag_setW, xown_setW, xlen_setW, xi_setR, xi_setW, xr_setI, xr_setW, xww_setI, xww_setR, xi_setI, xr_setR, xww_setW, xE_new, xsz_new, xsl_new, t1, t2, t4, xsub]; done) | (simp [xE_setI, xsz_setI, xsl_setI, xtag_setI, xown_setI, xlen_setI, xE_setR, xsz_setR, xsl_setR, xtag_setR, xown_setR, xlen_setR, xE_setW, xsz_setW, xsl_setW, xtag_setW, xown_setW, xlen_setW, xi_setR, xi_setW, xr_setI, xr_setW, xww_setI, xww_setR, xi_setI, xr_setR, xww_setW, xE_new, xsz_new, xsl_new, t1, t2, t4] <;> rfl)) (by simp [xE_setI, xsz_setI, xsl_setI, xtag_setI, xown_setI, xlen_setI, xE_setR, xsz_setR, xsl_setR, xtag_setR, xown_setR, xlen_setR, xE_setW, xsz_setW, xsl_setW, xtag_setW, xown_setW, xlen_setW, xi_setR, xi_setW, xr_setI, xr_setW, xww_setI, xww_setR, xi_setI, xr_setR, xww_setW, xE_new, xsz_new, xsl_new, t1, t2, t4]) ?_
    refine xw_ifnull (pc := 4) dX3_counts_4 ?_
    refine xw_aload_n (pc := 7) dX3_counts_7 0 rfl ?_
    refine xw_getS (b := a) (pc := 8) fd_X3_17 dX3_counts_8 (by first | assumption | (simp [xE_setI, xsz_setI, xsl_setI, xtag_setI, xown_setI, xlen_setI, xE_setR, xsz_setR, xsl_setR, xtag_setR, xown_setR, xlen_setR, xE_setW, xsz_setW, xsl_setW, xtag_setW, xown_setW, xlen_setW, xi_setR, xi_setW, xr_setI, xr_setW, xww_setI, xww_setR, xi_setI, xr_setR, xww_setW, xE_new, xsz_new, xsl_new, t1, t2, t4, xsub]; done) | (simp [xE_setI, xsz_setI, xsl_setI, xtag_setI, xown_setI, xlen_setI, xE_setR, xsz_setR, xsl_setR, xtag_setR, xown_setR, xlen_setR, xE_setW, xsz_setW, xsl_setW, xtag_setW, xown_setW, xlen_setW, xi_setR, xi_setW, xr_setI, xr_setW, xww_setI, xww_setR, xi_setI, xr_setR, xww_setW, xE_new, xsz_new, xsl_new, t1, t2, t4] <;> rfl)) (by simp [xE_setI, xsz_setI, xsl_setI, xtag_setI, xown_setI, xlen_setI, xE_setR, xsz_setR, xsl_setR, xtag_setR, xown_setR, xlen_setR, xE_setW, xsz_setW, xsl_setW, xtag_setW, xown_setW, xlen_setW, xi_setR, xi_setW, xr_setI, xr_setW, xww_setI, xww_setR, xi_setI, xr_setR, xww_setW, xE_new, xsz_new, xsl_new, t1, t2, t4]) ?_
    refine xw_goto (pc := 11) 21 dX3_counts_11 rfl ?_
    refine xw_aret (pc := 21) (.object "PolicyNotation$Effect") dX3_counts_21 rfl ?_
    exact ⟨rfl, rfl⟩
