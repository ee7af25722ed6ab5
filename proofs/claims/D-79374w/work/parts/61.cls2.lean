/-! CLASS 2: tests, by their classes -/
set_option maxRecDepth 100000
theorem SP_X13_fits {d : Nat} {g : xG} {a : Nat} {v : Int32} (ht : xtag g a = 10) : XM M_X13_fits (d + 1) [.ref a, .int v] g (xOne (some (.int (bI (fulf v 0 (xi g a 1))))) g) := by
  refine xm_of (by decide +kernel) (Nat.le_of_ble_eq_true rfl) ?_
  show XW _ _ 0 [(0, _), (1, _)] [] _ _
  refine xw_iload_n (pc := 0) dX13_fits_0 1 rfl ?_
  refine xw_aload_n (pc := 1) dX13_fits_1 0 rfl ?_
  refine xw_callV (pc := 2) (xr_U (as := []) ok_X12_digit rfl (by decide) q814 q815 (Or.inl q816) ⟨by decide, by decide, by decide +kernel⟩ q818 (by rw [ht]; rfl) (by rw [ht]; exact q817) dX13_fits_2 rfl rfl (Nat.le_of_ble_eq_true rfl)) (SP_X12_digit (by rw [ht]; rfl)) ?_
  refine xw_icmp_ne (pc := 5) 12 dX13_fits_5 rfl (fun hb5 => ?_) (fun hb5 => ?_)
  · refine xw_iconst (v := nI 0) (pc := 12) dX13_fits_12 rfl ?_
    refine xw_iret (pc := 13) .boolean dX13_fits_13 rfl ?_ 
    refine ⟨congrArg (fun x => Sum.inl (some (Value.int x))) ?_, rfl⟩
    first | (change bI true = _; simp [fulf, *]; done) | (change bI false = _; simp [fulf, *]; done) | (change bI true = _; simp_all [fulf, ← Int32.not_lt]; done) | (change bI false = _; simp_all [fulf, ← Int32.not_lt]; done)
  · refine xw_iconst (v := nI 1) (pc := 8) dX13_fits_8 rfl ?_
    refine xw_goto (pc := 9) 13 dX13_fits_9 rfl ?_
    refine xw_iret (pc := 13) .boolean dX13_fits_13 rfl ?_ 
    refine ⟨congrArg (fun x => Sum.inl (some (Value.int x))) ?_, rfl⟩
    first | (change bI true = _; simp [fulf, *]; done) | (change bI false = _; simp [fulf, *]; done) | (change bI true = _; simp_all [fulf, ← Int32.not_lt]; done) | (change bI false = _; simp_all [fulf, ← Int32.not_lt]; done)

theorem SP_X14_fits {d : Nat} {g : xG} {a : Nat} {v : Int32} (ht : xtag g a = 11) : XM M_X14_fits (d + 1) [.ref a, .int v] g (xOne (some (.int (bI (fulf v 1 (xi g a 1))))) g) := by
  refine xm_of (by decide +kernel) (Nat.le_of_ble_eq_true rfl) ?_
  show XW _ _ 0 [(0, _), (1, _)] [] _ _
  refine xw_iload_n (pc := 0) dX14_fits_0 1 rfl ?_
  refine xw_aload_n (pc := 1) dX14_fits_1 0 rfl ?_
  refine xw_callV (pc := 2) (xr_U (as := []) ok_X12_digit rfl (by decide) q829 q830 (Or.inl q816) ⟨by decide, by decide, by decide +kernel⟩ q818 (by rw [ht]; rfl) (by rw [ht]; exact q831) dX14_fits_2 rfl rfl (Nat.le_of_ble_eq_true rfl)) (SP_X12_digit (by rw [ht]; rfl)) ?_
  refine xw_icmp_ge (pc := 5) 12 dX14_fits_5 rfl (fun hb5 => ?_) (fun hb5 => ?_)
  · refine xw_iconst (v := nI 0) (pc := 12) dX14_fits_12 rfl ?_
    refine xw_iret (pc := 13) .boolean dX14_fits_13 rfl ?_ 
    refine ⟨congrArg (fun x => Sum.inl (some (Value.int x))) ?_, rfl⟩
    first | (change bI true = _; simp [fulf, *]; done) | (change bI false = _; simp [fulf, *]; done) | (change bI true = _; simp_all [fulf, ← Int32.not_lt]; done) | (change bI false = _; simp_all [fulf, ← Int32.not_lt]; done)
  · refine xw_iconst (v := nI 1) (pc := 8) dX14_fits_8 rfl ?_
    refine xw_goto (pc := 9) 13 dX14_fits_9 rfl ?_
    refine xw_iret (pc := 13) .boolean dX14_fits_13 rfl ?_ 
    refine ⟨congrArg (fun x => Sum.inl (some (Value.int x))) ?_, rfl⟩
    first | (change bI true = _; simp [fulf, *]; done) | (change bI false = _; simp [fulf, *]; done) | (change bI true = _; simp_all [fulf, ← Int32.not_lt]; done) | (change bI false = _; simp_all [fulf, ← Int32.not_lt]; done)

theorem SP_X15_fits {d : Nat} {g : xG} {a : Nat} {v : Int32} (ht : xtag g a = 12) : XM M_X15_fits (d + 1) [.ref a, .int v] g (xOne (some (.int (bI (fulf v 2 (xi g a 1))))) g) := by
  refine xm_of (by decide +kernel) (Nat.le_of_ble_eq_true rfl) ?_
  show XW _ _ 0 [(0, _), (1, _)] [] _ _
  refine xw_iload_n (pc := 0) dX15_fits_0 1 rfl ?_
  refine xw_aload_n (pc := 1) dX15_fits_1 0 rfl ?_
  refine xw_callV (pc := 2) (xr_U (as := []) ok_X12_digit rfl (by decide) q823 q824 (Or.inl q816) ⟨by decide, by decide, by decide +kernel⟩ q818 (by rw [ht]; rfl) (by rw [ht]; exact q825) dX15_fits_2 rfl rfl (Nat.le_of_ble_eq_true rfl)) (SP_X12_digit (by rw [ht]; rfl)) ?_
  refine xw_icmp_le (pc := 5) 12 dX15_fits_5 rfl (fun hb5 => ?_) (fun hb5 => ?_)
  · refine xw_iconst (v := nI 0) (pc := 12) dX15_fits_12 rfl ?_
    refine xw_iret (pc := 13) .boolean dX15_fits_13 rfl ?_ 
    refine ⟨congrArg (fun x => Sum.inl (some (Value.int x))) ?_, rfl⟩
    first | (change bI true = _; simp [fulf, *]; done) | (change bI false = _; simp [fulf, *]; done) | (change bI true = _; simp_all [fulf, ← Int32.not_lt]; done) | (change bI false = _; simp_all [fulf, ← Int32.not_lt]; done)
  · refine xw_iconst (v := nI 1) (pc := 8) dX15_fits_8 rfl ?_
    refine xw_goto (pc := 9) 13 dX15_fits_9 rfl ?_
    refine xw_iret (pc := 13) .boolean dX15_fits_13 rfl ?_ 
    refine ⟨congrArg (fun x => Sum.inl (some (Value.int x))) ?_, rfl⟩
    first | (change bI true = _; simp [fulf, *]; done) | (change bI false = _; simp [fulf, *]; done) | (change bI true = _; simp_all [fulf, ← Int32.not_lt]; done) | (change bI false = _; simp_all [fulf, ← Int32.not_lt]; done)

theorem SP_X16_fits {d : Nat} {g : xG} {a : Nat} {v : Int32} (ht : xtag g a = 13) : XM M_X16_fits (d + 1) [.ref a, .int v] g (xOne (some (.int (bI (fulf v 3 (xi g a 1))))) g) := by
  refine xm_of (by decide +kernel) (Nat.le_of_ble_eq_true rfl) ?_
  show XW _ _ 0 [(0, _), (1, _)] [] _ _
  refine xw_iload_n (pc := 0) dX16_fits_0 1 rfl ?_
  refine xw_aload_n (pc := 1) dX16_fits_1 0 rfl ?_
  refine xw_callV (pc := 2) (xr_U (as := []) ok_X12_digit rfl (by decide) q835 q836 (Or.inl q816) ⟨by decide, by decide, by decide +kernel⟩ q818 (by rw [ht]; rfl) (by rw [ht]; exact q837) dX16_fits_2 rfl rfl (Nat.le_of_ble_eq_true rfl)) (SP_X12_digit (by rw [ht]; rfl)) ?_
  refine xw_icmp_eq (pc := 5) 12 dX16_fits_5 rfl (fun hb5 => ?_) (fun hb5 => ?_)
  · refine xw_iconst (v := nI 0) (pc := 12) dX16_fits_12 rfl ?_
    refine xw_iret (pc := 13) .boolean dX16_fits_13 rfl ?_ 
    refine ⟨congrArg (fun x => Sum.inl (some (Value.int x))) ?_, rfl⟩
    first | (change bI true = _; simp [fulf, *]; done) | (change bI false = _; simp [fulf, *]; done) | (change bI true = _; simp_all [fulf, ← Int32.not_lt]; done) | (change bI false = _; simp_all [fulf, ← Int32.not_lt]; done)
  · refine xw_iconst (v := nI 1) (pc := 8) dX16_fits_8 rfl ?_
    refine xw_goto (pc := 9) 13 dX16_fits_9 rfl ?_
    refine xw_iret (pc := 13) .boolean dX16_fits_13 rfl ?_ 
    refine ⟨congrArg (fun x => Sum.inl (some (Value.int x))) ?_, rfl⟩
    first | (change bI true = _; simp [fulf, *]; done) | (change bI false = _; simp [fulf, *]; done) | (change bI true = _; simp_all [fulf, ← Int32.not_lt]; done) | (change bI false = _; simp_all [fulf, ← Int32.not_lt]; done)

/-- whether the test b fits v -/
def tfit (g : xG) (b : Nat) (v : Int32) : Bool := fulf v (xtag g b - 10) (xi g b 1)
theorem xw_fits {M : xM} {d pc : Nat} {l : List (Nat × Value)} {rest : List Value} {g : xG} {Q : Option Value ⊕ Nat → xG → Prop} {idx b : Nat} {v : Int32} (hb : 10 ≤ xtag g b) (hb2 : xtag g b ≤ 13) (hd : decode M.2.1 pc = .ok (.invokevirtual idx, 3)) (hl : Cond.methodLink M.1.cls idx ⟨"PolicyNotation$Test", "fits", "(I)Z"⟩ ∈ lw_all) (hr : (rest.map fun v => v.category).sum ≤ 8) (k : XW M (d + 2) (pc + 3) l (.int (bI (tfit g b v)) :: rest) g Q) : XW M (d + 2) pc l (.int v :: .ref b :: rest) g Q := by
  have h : xtag g b = 10 ∨ xtag g b = 11 ∨ xtag g b = 12 ∨ xtag g b = 13 := by omega
  unfold tfit at k
  rcases h with h | h | h | h
  · rw [h] at k
    exact xw_callV (xr_U (x := ⟨"PolicyNotation$Test", "fits", "(I)Z"⟩) (as := [_]) ok_X13_fits rfl (by decide) hl q810 (Or.inl q809) ⟨by decide, by decide, by decide +kernel⟩ q812 (by rw [h]; rfl) (by rw [h]; exact q811) hd rfl rfl hr) (SP_X13_fits h) k
  · rw [h] at k
    exact xw_callV (xr_U (x := ⟨"PolicyNotation$Test", "fits", "(I)Z"⟩) (as := [_]) ok_X14_fits rfl (by decide) hl q810 (Or.inl q809) ⟨by decide, by decide, by decide +kernel⟩ q827 (by rw [h]; rfl) (by rw [h]; exact q826) hd rfl rfl hr) (SP_X14_fits h) k
  · rw [h] at k
    exact xw_callV (xr_U (x := ⟨"PolicyNotation$Test", "fits", "(I)Z"⟩) (as := [_]) ok_X15_fits rfl (by decide) hl q810 (Or.inl q809) ⟨by decide, by decide, by decide +kernel⟩ q821 (by rw [h]; rfl) (by rw [h]; exact q820) hd rfl rfl hr) (SP_X15_fits h) k
  · rw [h] at k
    exact xw_callV (xr_U (x := ⟨"PolicyNotation$Test", "fits", "(I)Z"⟩) (as := [_]) ok_X16_fits rfl (by decide) hl q810 (Or.inl q809) ⟨by decide, by decide, by decide +kernel⟩ q833 (by rw [h]; rfl) (by rw [h]; exact q832) hd rfl rfl hr) (SP_X16_fits h) k
theorem SP_X9_of {d : Nat} {g : xG} {a : Nat} : XM M_X9_of d [.ref a] g (xOne (some (.int (-1))) g) := by
  refine xm_of (by decide +kernel) (Nat.le_of_ble_eq_true rfl) ?_
  show XW _ _ 0 [(0, _)] [] _ _
  refine xw_iconst (v := -1) (pc := 0) dX9_of_0 (by decide +kernel) ?_
  refine xw_iret (pc := 1) .int dX9_of_1 rfl ?_ 
  exact ⟨rfl, rfl⟩

theorem SP_X8_of {d : Nat} {g : xG} {a : Nat} (ht : xtag g a = 6) : XM M_X8_of d [.ref a] g (xOne (some (.int (xi g a 7))) g) := by
  refine xm_of (by decide +kernel) (Nat.le_of_ble_eq_true rfl) ?_
  show XW _ _ 0 [(0, _)] [] _ _
  refine xw_aload_n (pc := 0) dX8_of_0 0 rfl ?_
  refine xw_getI (pc := 1) fd_X8_11 dX8_of_1 (by first | assumption | (simp [xE_setI, xsz_setI, xsl_setI, xtag_setI, xown_setI, xlen_setI, xE_setR, xsz_setR, xsl_setR, xtag_setR, xown_setR, xlen_setR, xE_setW, xsz_setW, xsl_setW, xtag_setW, xown_setW, xlen_setW, xi_setR, xi_setW, xr_setI, xr_setW, xww_setI, xww_setR, xi_setI, xr_setR, xww_setW, xE_new, xsz_new, xsl_new, ht, xsub]; done) | (simp [xE_setI, xsz_setI, xsl_setI, xtag_setI, xown_setI, xlen_setI, xE_setR, xsz_setR, xsl_setR, xtag_setR, xown_setR, xlen_setR, xE_setW, xsz_setW, xsl_setW, xtag_setW, xown_setW, xlen_setW, xi_setR, xi_setW, xr_setI, xr_setW, xww_setI, xww_setR, xi_setI, xr_setR, xww_setW, xE_new, xsz_new, xsl_new, ht] <;> rfl)) ?_
  refine xw_iret (pc := 4) .int dX8_of_4 rfl ?_ 
  exact ⟨rfl, rfl⟩

theorem SP_X9_depth {d : Nat} {g : xG} {a : Nat} : XM M_X9_depth d [.ref a] g (xOne (some (.int (nI 0))) g) := by
  refine xm_of (by decide +kernel) (Nat.le_of_ble_eq_true rfl) ?_
  show XW _ _ 0 [(0, _)] [] _ _
  refine xw_iconst (v := nI 0) (pc := 0) dX9_depth_0 rfl ?_
  refine xw_iret (pc := 1) .int dX9_depth_1 rfl ?_ 
  exact ⟨rfl, rfl⟩

theorem SP_X8_depth {d : Nat} {g : xG} {a : Nat} (ht : xtag g a = 6) : XM M_X8_depth d [.ref a] g (xOne (some (.int (xi g a 8))) g) := by
  refine xm_of (by decide +kernel) (Nat.le_of_ble_eq_true rfl) ?_
  show XW _ _ 0 [(0, _)] [] _ _
  refine xw_aload_n (pc := 0) dX8_depth_0 0 rfl ?_
  refine xw_getI (pc := 1) fd_X8_20 dX8_depth_1 (by first | assumption | (simp [xE_setI, xsz_setI, xsl_setI, xtag_setI, xown_setI, xlen_setI, xE_setR, xsz_setR, xsl_setR, xtag_setR, xown_setR, xlen_setR, xE_setW, xsz_setW, xsl_setW, xtag_setW, xown_setW, xlen_setW, xi_setR, xi_setW, xr_setI, xr_setW, xww_setI, xww_setR, xi_setI, xr_setR, xww_setW, xE_new, xsz_new, xsl_new, ht, xsub]; done) | (simp [xE_setI, xsz_setI, xsl_setI, xtag_setI, xown_setI, xlen_setI, xE_setR, xsz_setR, xsl_setR, xtag_setR, xown_setR, xlen_setR, xE_setW, xsz_setW, xsl_setW, xtag_setW, xown_setW, xlen_setW, xi_setR, xi_setW, xr_setI, xr_setW, xww_setI, xww_setR, xi_setI, xr_setR, xww_setW, xE_new, xsz_new, xsl_new, ht] <;> rfl)) ?_
  refine xw_iret (pc := 4) .int dX8_depth_4 rfl ?_ 
  exact ⟨rfl, rfl⟩

theorem SP_X9_effect {d : Nat} {g : xG} {a : Nat} (ht : xtag g a = 7) : XM M_X9_effect d [.ref a] g (xOne (some (xref (xr g a 7))) g) := by
  refine xm_of (by decide +kernel) (Nat.le_of_ble_eq_true rfl) ?_
  show XW _ _ 0 [(0, _)] [] _ _
  refine xw_aload_n (pc := 0) dX9_effect_0 0 rfl ?_
  refine xw_getR (pc := 1) fd_X9_9 dX9_effect_1 (by first | assumption | (simp [xE_setI, xsz_setI, xsl_setI, xtag_setI, xown_setI, xlen_setI, xE_setR, xsz_setR, xsl_setR, xtag_setR, xown_setR, xlen_setR, xE_setW, xsz_setW, xsl_setW, xtag_setW, xown_setW, xlen_setW, xi_setR, xi_setW, xr_setI, xr_setW, xww_setI, xww_setR, xi_setI, xr_setR, xww_setW, xE_new, xsz_new, xsl_new, ht, xsub]; done) | (simp [xE_setI, xsz_setI, xsl_setI, xtag_setI, xown_setI, xlen_setI, xE_setR, xsz_setR, xsl_setR, xtag_setR, xown_setR, xlen_setR, xE_setW, xsz_setW, xsl_setW, xtag_setW, xown_setW, xlen_setW, xi_setR, xi_setW, xr_setI, xr_setW, xww_setI, xww_setR, xi_setI, xr_setR, xww_setW, xE_new, xsz_new, xsl_new, ht] <;> rfl)) ?_
  refine xw_aret (pc := 4) (.object "PolicyNotation$Effect") dX9_effect_4 rfl ?_
  exact ⟨rfl, rfl⟩

theorem SP_X8_effect {d : Nat} {g : xG} {a : Nat} : XM M_X8_effect d [.ref a] g (xOne (some .null) g) := by
  refine xm_of (by decide +kernel) (Nat.le_of_ble_eq_true rfl) ?_
  show XW _ _ 0 [(0, _)] [] _ _
  refine xw_null (pc := 0) dX8_effect_0 ?_
  refine xw_aret (pc := 1) (.object "PolicyNotation$Effect") dX8_effect_1 rfl ?_
  exact ⟨rfl, rfl⟩

/-- what a rule says of itself: its parent, its depth, its effect -/
def rOf (g : xG) (b : Nat) : Int32 := if xtag g b = 6 then xi g b 7 else -1
def rDep (g : xG) (b : Nat) : Int32 := if xtag g b = 6 then xi g b 8 else nI 0
def rEff (g : xG) (b : Nat) : Option Nat := if xtag g b = 6 then none else xr g b 7
theorem xw_rof {M : xM} {d pc : Nat} {l : List (Nat × Value)} {rest : List Value} {g : xG} {Q : Option Value ⊕ Nat → xG → Prop} {idx b : Nat} (hb : xtag g b = 6 ∨ xtag g b = 7) (hd : decode M.2.1 pc = .ok (.invokevirtual idx, 3)) (hl : Cond.methodLink M.1.cls idx ⟨"PolicyNotation$Rule", "of", "()I"⟩ ∈ lw_all) (hr : (rest.map fun v => v.category).sum ≤ 8) (k : XW M (d + 1) (pc + 3) l (.int (rOf g b) :: rest) g Q) : XW M (d + 1) pc l (.ref b :: rest) g Q := by
  unfold rOf at k
  rcases hb with h | h
  · rw [if_pos h] at k
    exact xw_callV (xr_U (x := ⟨"PolicyNotation$Rule", "of", "()I"⟩) (as := []) ok_X8_of rfl (by decide) hl q840 (Or.inl q839) ⟨by decide, by decide, by decide +kernel⟩ q842 (by rw [h]; rfl) (by rw [h]; exact q841) hd rfl rfl hr) (SP_X8_of h) k
  · rw [if_neg (by rw [h]; decide)] at k
    exact xw_callV (xr_U (x := ⟨"PolicyNotation$Rule", "of", "()I"⟩) (as := []) ok_X9_of rfl (by decide) hl q840 (Or.inl q839) ⟨by decide, by decide, by decide +kernel⟩ q845 (by rw [h]; rfl) (by rw [h]; exact q844) hd rfl rfl hr) (SP_X9_of) k
theorem xw_rdepth {M : xM} {d pc : Nat} {l : List (Nat × Value)} {rest : List Value} {g : xG} {Q : Option Value ⊕ Nat → xG → Prop} {idx b : Nat} (hb : xtag g b = 6 ∨ xtag g b = 7) (hd : decode M.2.1 pc = .ok (.invokevirtual idx, 3)) (hl : Cond.methodLink M.1.cls idx ⟨"PolicyNotation$Rule", "depth", "()I"⟩ ∈ lw_all) (hr : (rest.map fun v => v.category).sum ≤ 8) (k : XW M (d + 1) (pc + 3) l (.int (rDep g b) :: rest) g Q) : XW M (d + 1) pc l (.ref b :: rest) g Q := by
  unfold rDep at k
  rcases hb with h | h
  · rw [if_pos h] at k
    exact xw_callV (xr_U (x := ⟨"PolicyNotation$Rule", "depth", "()I"⟩) (as := []) ok_X8_depth rfl (by decide) hl q1353 (Or.inl q1352) ⟨by decide, by decide, by decide +kernel⟩ q1355 (by rw [h]; rfl) (by rw [h]; exact q1354) hd rfl rfl hr) (SP_X8_depth h) k
  · rw [if_neg (by rw [h]; decide)] at k
    exact xw_callV (xr_U (x := ⟨"PolicyNotation$Rule", "depth", "()I"⟩) (as := []) ok_X9_depth rfl (by decide) hl q1353 (Or.inl q1352) ⟨by decide, by decide, by decide +kernel⟩ q1358 (by rw [h]; rfl) (by rw [h]; exact q1357) hd rfl rfl hr) (SP_X9_depth) k
theorem xw_reffect {M : xM} {d pc : Nat} {l : List (Nat × Value)} {rest : List Value} {g : xG} {Q : Option Value ⊕ Nat → xG → Prop} {idx b : Nat} (hb : xtag g b = 6 ∨ xtag g b = 7) (hd : decode M.2.1 pc = .ok (.invokevirtual idx, 3)) (hl : Cond.methodLink M.1.cls idx ⟨"PolicyNotation$Rule", "effect", "()LPolicyNotation$Effect;"⟩ ∈ lw_all) (hr : (rest.map fun v => v.category).sum ≤ 8) (k : XW M (d + 1) (pc + 3) l (xref (rEff g b) :: rest) g Q) : XW M (d + 1) pc l (.ref b :: rest) g Q := by
  unfold rEff at k
  rcases hb with h | h
  · rw [if_pos h] at k
    exact xw_callV (xr_U (x := ⟨"PolicyNotation$Rule", "effect", "()LPolicyNotation$Effect;"⟩) (as := []) ok_X8_effect rfl (by decide) hl q758 (Or.inl q757) ⟨by decide, by decide, by decide +kernel⟩ q760 (by rw [h]; rfl) (by rw [h]; exact q759) hd rfl rfl hr) (SP_X8_effect) k
  · rw [if_neg (by rw [h]; decide)] at k
    exact xw_callV (xr_U (x := ⟨"PolicyNotation$Rule", "effect", "()LPolicyNotation$Effect;"⟩) (as := []) ok_X9_effect rfl (by decide) hl q758 (Or.inl q757) ⟨by decide, by decide, by decide +kernel⟩ q763 (by rw [h]; rfl) (by rw [h]; exact q762) hd rfl rfl hr) (SP_X9_effect h) k
theorem SP_X3_init {d : Nat} {g : xG} {a : Nat} {out own : Option Nat} {k : Int32} (ht : xtag g a = 3) (ho : xown g a ≠ 0) : XM M_X3_init (d + 1) [.ref a, xref out, .int k, xref own] g (xOne none (xsetR (xsetI (xsetR g a 0 out) a 1 k) a 2 own)) := by
  refine xm_of (by decide +kernel) (by cases out <;> cases own <;> exact Nat.le_of_ble_eq_true rfl) ?_
  rw [show lv_args 0 [.ref a, xref out, .int k, xref own] = [(0, .ref a), (1, xref out), (2, .int k), (3, xref own)] from by cases out <;> cases own <;> rfl]
  refine xw_aload_n (pc := 0) dX3_init_0 0 rfl ?_
  refine xw_objInit (pc := 1) dX3_init_1 q511 (Nat.le_of_ble_eq_true rfl) ?_
  refine xw_aload_n (pc := 4) dX3_init_4 0 rfl ?_
  refine xw_aload_n (pc := 5) dX3_init_5 1 rfl ?_
  refine xw_putR (o := out) (pc := 6) fd_X3_7 (xfin_of (by decide) (by decide +kernel)) dX3_init_6 (by first | assumption | (simp [xE_setI, xsz_setI, xsl_setI, xtag_setI, xown_setI, xlen_setI, xE_setR, xsz_setR, xsl_setR, xtag_setR, xown_setR, xlen_setR, xE_setW, xsz_setW, xsl_setW, xtag_setW, xown_setW, xlen_setW, xi_setR, xi_setW, xr_setI, xr_setW, xww_setI, xww_setR, xi_setI, xr_setR, xww_setW, xE_new, xsz_new, xsl_new, ht, xsub]; done) | (simp [xE_setI, xsz_setI, xsl_setI, xtag_setI, xown_setI, xlen_setI, xE_setR, xsz_setR, xsl_setR, xtag_setR, xown_setR, xlen_setR, xE_setW, xsz_setW, xsl_setW, xtag_setW, xown_setW, xlen_setW, xi_setR, xi_setW, xr_setI, xr_setW, xww_setI, xww_setR, xi_setI, xr_setR, xww_setW, xE_new, xsz_new, xsl_new, ht] <;> rfl)) (by first | assumption | (simp [xE_setI, xsz_setI, xsl_setI, xtag_setI, xown_setI, xlen_setI, xE_setR, xsz_setR, xsl_setR, xtag_setR, xown_setR, xlen_setR, xE_setW, xsz_setW, xsl_setW, xtag_setW, xown_setW, xlen_setW, xi_setR, xi_setW, xr_setI, xr_setW, xww_setI, xww_setR, xi_setI, xr_setR, xww_setW, xE_new, xsz_new, xsl_new, ht]; done) | (simp [xE_setI, xsz_setI, xsl_setI, xtag_setI, xown_setI, xlen_setI, xE_setR, xsz_setR, xsl_setR, xtag_setR, xown_setR, xlen_setR, xE_setW, xsz_setW, xsl_setW, xtag_setW, xown_setW, xlen_setW, xi_setR, xi_setW, xr_setI, xr_setW, xww_setI, xww_setR, xi_setI, xr_setR, xww_setW, xE_new, xsz_new, xsl_new, ht]; assumption)) rfl ?_
  refine xw_aload_n (pc := 9) dX3_init_9 0 rfl ?_
  refine xw_iload_n (pc := 10) dX3_init_10 2 rfl ?_
  refine xw_putI (pc := 11) fd_X3_13 (xfin_of (by decide) (by decide +kernel)) dX3_init_11 (by first | assumption | (simp [xE_setI, xsz_setI, xsl_setI, xtag_setI, xown_setI, xlen_setI, xE_setR, xsz_setR, xsl_setR, xtag_setR, xown_setR, xlen_setR, xE_setW, xsz_setW, xsl_setW, xtag_setW, xown_setW, xlen_setW, xi_setR, xi_setW, xr_setI, xr_setW, xww_setI, xww_setR, xi_setI, xr_setR, xww_setW, xE_new, xsz_new, xsl_new, ht, xsub]; done) | (simp [xE_setI, xsz_setI, xsl_setI, xtag_setI, xown_setI, xlen_setI, xE_setR, xsz_setR, xsl_setR, xtag_setR, xown_setR, xlen_setR, xE_setW, xsz_setW, xsl_setW, xtag_setW, xown_setW, xlen_setW, xi_setR, xi_setW, xr_setI, xr_setW, xww_setI, xww_setR, xi_setI, xr_setR, xww_setW, xE_new, xsz_new, xsl_new, ht] <;> rfl)) (by first | assumption | (simp [xE_setI, xsz_setI, xsl_setI, xtag_setI, xown_setI, xlen_setI, xE_setR, xsz_setR, xsl_setR, xtag_setR, xown_setR, xlen_setR, xE_setW, xsz_setW, xsl_setW, xtag_setW, xown_setW, xlen_setW, xi_setR, xi_setW, xr_setI, xr_setW, xww_setI, xww_setR, xi_setI, xr_setR, xww_setW, xE_new, xsz_new, xsl_new, ht]; done) | (simp [xE_setI, xsz_setI, xsl_setI, xtag_setI, xown_setI, xlen_setI, xE_setR, xsz_setR, xsl_setR, xtag_setR, xown_setR, xlen_setR, xE_setW, xsz_setW, xsl_setW, xtag_setW, xown_setW, xlen_setW, xi_setR, xi_setW, xr_setI, xr_setW, xww_setI, xww_setR, xi_setI, xr_setR, xww_setW, xE_new, xsz_new, xsl_new, ht]; assumption)) ?_
  refine xw_aload_n (pc := 14) dX3_init_14 0 rfl ?_
  refine xw_aload_n (pc := 15) dX3_init_15 3 rfl ?_
  refine xw_putR (o := own) (pc := 16) fd_X3_17 (xfin_of (by decide) (by decide +kernel)) dX3_init_16 (by first | assumption | (simp [xE_setI, xsz_setI, xsl_setI, xtag_setI, xown_setI, xlen_setI, xE_setR, xsz_setR, xsl_setR, xtag_setR, xown_setR, xlen_setR, xE_setW, xsz_setW, xsl_setW, xtag_setW, xown_setW, xlen_setW, xi_setR, xi_setW, xr_setI, xr_setW, xww_setI, xww_setR, xi_setI, xr_setR, xww_setW, xE_new, xsz_new, xsl_new, ht, xsub]; done) | (simp [xE_setI, xsz_setI, xsl_setI, xtag_setI, xown_setI, xlen_setI, xE_setR, xsz_setR, xsl_setR, xtag_setR, xown_setR, xlen_setR, xE_setW, xsz_setW, xsl_setW, xtag_setW, xown_setW, xlen_setW, xi_setR, xi_setW, xr_setI, xr_setW, xww_setI, xww_setR, xi_setI, xr_setR, xww_setW, xE_new, xsz_new, xsl_new, ht] <;> rfl)) (by first | assumption | (simp [xE_setI, xsz_setI, xsl_setI, xtag_setI, xown_setI, xlen_setI, xE_setR, xsz_setR, xsl_setR, xtag_setR, xown_setR, xlen_setR, xE_setW, xsz_setW, xsl_setW, xtag_setW, xown_setW, xlen_setW, xi_setR, xi_setW, xr_setI, xr_setW, xww_setI, xww_setR, xi_setI, xr_setR, xww_setW, xE_new, xsz_new, xsl_new, ht]; done) | (simp [xE_setI, xsz_setI, xsl_setI, xtag_setI, xown_setI, xlen_setI, xE_setR, xsz_setR, xsl_setR, xtag_setR, xown_setR, xlen_setR, xE_setW, xsz_setW, xsl_setW, xtag_setW, xown_setW, xlen_setW, xi_setR, xi_setW, xr_setI, xr_setW, xww_setI, xww_setR, xi_setI, xr_setR, xww_setW, xE_new, xsz_new, xsl_new, ht]; assumption)) rfl ?_
  refine xw_vret (pc := 19) dX3_init_19 rfl ?_
  exact ⟨rfl, rfl⟩

