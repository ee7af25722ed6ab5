/-! CLASS 54: the reader: a test -/
set_option maxRecDepth 100000
/-- the place of a sign -/
def sgX (c : Nat) : Option Nat := fIx (gD (xTxt 0)) c (xTxt 0).length 0
theorem sg_len : (xTxt 0).length = 4 := by decide +kernel
theorem sg_small (j : Nat) : gD (xTxt 0) j < 256 := by
  by_cases h : j < 4
  · have h9 : ∀ j : Fin 4, gD (xTxt 0) j.val < 256 := by decide +kernel
    exact h9 ⟨j, h⟩
  · unfold gD
    rw [List.getD_eq_getElem?_getD, List.getElem?_eq_none (by rw [sg_len]; omega)]
    decide
theorem sgX_lt {c s : Nat} (h : sgX c = some s) : s < 4 := by
  have := fIx_lt _ _ _ h
  rw [sg_len] at this
  omega
/-- a test: feature, sign, digit; or the place of the fault -/
def rTo (n : Nat) (ch : Nat → Nat) (p : Nat) : Except Nat (Nat × Nat × Nat) := if hIn n ch p 97 102 = true then (if p + 1 < n then (match sgX (ch (p + 1)) with
    | some s => if hIn n ch (p + 2) 48 57 = true then .ok (ch p - 97, s, ch (p + 2) - 48) else .error (p + 2)
    | none => .error (p + 1)) else .error (p + 1)) else .error p
/-- the draft D -/
def xDr (g : xG) (D : Nat) (eff : Option Nat) (of sc rk f l : Int32) (tl arr : Nat) (ts : List Nat) : Prop := xtag g D = 16 ∧ xown g D = 14 ∧ xr g D 0 = eff ∧ xi g D 1 = of ∧ xi g D 2 = sc ∧ xi g D 3 = rk ∧ xi g D 4 = f ∧ xi g D 5 = l ∧ xr g D 6 = some tl ∧ xAL g 15 tl arr ts
/-- tests, by what they say -/
def xTq (g : xG) (ts : List Nat) (T : List (Nat × Nat × Nat)) : Prop := ts.length = T.length ∧ ∀ j, j < T.length → xtag g (ts.getD j 0) = 10 + (T.getD j (0, 0, 0)).2.1 ∧ (T.getD j (0, 0, 0)).2.1 < 4 ∧ xown g (ts.getD j 0) = 2 ∧ xi g (ts.getD j 0) 0 = nI (T.getD j (0, 0, 0)).1 ∧ xi g (ts.getD j 0) 1 = nI (T.getD j (0, 0, 0)).2.2
def o145 : Nat → Prop := fun o => o = 14 ∨ o = 15
theorem xTq.obj {g : xG} {ts : List Nat} {T : List (Nat × Nat × Nat)} (h : xTq g ts T) : ∀ i, i < ts.length → xObj g (ts.getD i 0) := by
  intro i hi
  obtain ⟨h1, h2, -⟩ := h.2 i (by rw [← h.1]; exact hi)
  exact xObj_T (by omega) (by omega)
theorem xTq.fr {g g' : xG} {ts : List Nat} {T : List (Nat × Nat × Nat)} {O : Nat → Prop} {N : Nat} (h : xTq g ts T) (F : xFr O N g g') (h2 : ¬ O 2) : xTq g' ts T := by
  refine ⟨h.1, fun j hj => ?_⟩
  obtain ⟨a1, a2, a3, a4, a5⟩ := h.2 j hj
  have hl : ts.getD j 0 < xsz g := xlt (by rw [a1]; omega)
  have no : ¬ O (xown g (ts.getD j 0)) := by rw [a3]; exact h2
  exact ⟨(F.tag hl).trans a1, a2, (F.own hl).trans a3, (F.i' hl no).trans a4, (F.i' hl no).trans a5⟩
theorem xTq.push {g : xG} {ts : List Nat} {T : List (Nat × Nat × Nat)} (h : xTq g ts T) {b : Nat} {t : Nat × Nat × Nat} (h1 : xtag g b = 10 + t.2.1) (h2 : t.2.1 < 4) (h3 : xown g b = 2) (h4 : xi g b 0 = nI t.1) (h5 : xi g b 1 = nI t.2.2) : xTq g (ts ++ [b]) (T ++ [t]) := by
  have hl := h.1
  refine ⟨by rw [List.length_append, List.length_append, hl]; rfl, fun j hj => ?_⟩
  rw [List.length_append] at hj
  by_cases hj2 : j < T.length
  · rw [show (ts ++ [b]).getD j 0 = ts.getD j 0 from by rw [List.getD_eq_getElem?_getD, List.getD_eq_getElem?_getD, List.getElem?_append_left (by omega)], show (T ++ [t]).getD j (0, 0, 0) = T.getD j (0, 0, 0) from by rw [List.getD_eq_getElem?_getD, List.getD_eq_getElem?_getD, List.getElem?_append_left hj2]]
    exact h.2 j hj2
  · have e : j = T.length := by simp at hj; omega
    subst e
    rw [show (ts ++ [b]).getD T.length 0 = b from by rw [List.getD_eq_getElem?_getD, List.getElem?_append_right (by omega), ← hl]; simp, show (T ++ [t]).getD T.length (0, 0, 0) = t from by rw [List.getD_eq_getElem?_getD, List.getElem?_append_right (Nat.le_refl _)]; simp]
    exact ⟨h1, h2, h3, h4, h5⟩

theorem SP_X18_test_F0 {d : Nat} {g : xG} {R D tb p n : Nat} {ch : Nat → Nat} (hR : xRd g R D tb p n ch) (hSC : xSC g) (hI : hIn n ch p 97 102 = false) : XM M_X18_test (d + 8) [.ref R] g (xWro g (oEq 14) 20 (p)) := by
  have hR0 := hR
  obtain ⟨r1, r2, r3, r4, r5, hB, r7, r8⟩ := hR
  have hch := hR0.chs
  have rl := hR0.lt
  have rn := hR0.own
  refine xm_of (by decide +kernel) (Nat.le_of_ble_eq_true rfl) ?_
  show XW _ _ 0 [(0, _)] [] _ _
  refine xw_aload_n (pc := 0) dX18_test_0 0 rfl ?_
  refine xw_aload_n (pc := 1) dX18_test_1 0 rfl ?_
  refine xw_callV (pc := 2) (xr_V (as := []) ok_X18_here rfl (by decide) q1908 q1910 qs34 (by first | (rw [r1]; rfl) | (rw [y1]; rfl) | (rw [z1]; rfl)) (by first | (rw [r1]; rfl) | (rw [y1]; rfl) | (rw [z1]; rfl)) dX18_test_2 rfl rfl (Nat.le_of_ble_eq_true rfl)) (SP_X18_here hR0) ?_
  refine xw_bipush (v := nI 97) (pc := 5) dX18_test_5 (by decide +kernel) ?_
  refine xw_bipush (v := nI 102) (pc := 7) dX18_test_7 (by decide +kernel) ?_
  refine xw_callV (pc := 9) (xr_SN (as := [_, _, _]) ok_X1_isIn rfl (by decide) q1967 q784 dX18_test_9 rfl rfl (Nat.le_of_ble_eq_true rfl)) ((show XM M_X1_isIn (d + 7) [.int (hrV n ch p), .int (nI 97), .int (nI 102)] g (xOne (some (.int (bI false))) g) from ((hrV_in (by decide) (by decide) hch).trans hI) ▸ SP_X1_isIn)) ?_
  refine xw_callX (pc := 12) (xr_V (as := [_]) ok_X18_needs rfl (by decide) q1968 q1970 qs38 (by first | (rw [r1]; rfl) | (rw [y1]; rfl) | (rw [z1]; rfl)) (by first | (rw [r1]; rfl) | (rw [y1]; rfl) | (rw [z1]; rfl)) dX18_test_12 rfl rfl (Nat.le_of_ble_eq_true rfl)) (SP_X18_needs_F hR0) ?_
  exact xx_out0 rfl (by rw [xWr_tag]; decide) (by rw [xWr_tag]; decide) (by rw [xWr_own]; decide) ⟨xsz g, rfl, xWr_tag, xWr_own, (xFr.rf (O := oEq 14) (n := 0) (g := g)).le, xWr_at, (xWr_fr (xFr.rf (O := oEq 14) (n := 0) (g := g))).sub (fun _ h => h) (by omega)⟩

theorem SP_X18_test_F1 {d : Nat} {g : xG} {R D tb p n : Nat} {ch : Nat → Nat} (hR : xRd g R D tb p n ch) (hSC : xSC g) (hI : hIn n ch p 97 102 = true) (h1 : ¬ p + 1 < n) : XM M_X18_test (d + 8) [.ref R] g (xWro g (oEq 14) 20 (p + 1)) := by
  have hR0 := hR
  obtain ⟨r1, r2, r3, r4, r5, hB, r7, r8⟩ := hR
  have hch := hR0.chs
  have rl := hR0.lt
  have rn := hR0.own
  have hp1 := of_decide_eq_true hI
  have F1 : xFr (oEq 14) 0 g (xsetI g R 2 (nI (p + 1))) := xFr.rf.si (Or.inr r2)
  have hR1 := hR0.to (q := p + 1) (by omega)
  have hSC1 := hSC.fr F1 (by unfold oEq; omega)
  have y1 : xtag (xsetI g R 2 (nI (p + 1))) R = 15 := hR1.1
  have y5 : xi (xsetI g R 2 (nI (p + 1))) R 2 = nI (p + 1) := hR1.2.2.2.2.1
  have hR10 := hR1
  refine xm_of (by decide +kernel) (Nat.le_of_ble_eq_true rfl) ?_
  show XW _ _ 0 [(0, _)] [] _ _
  refine xw_aload_n (pc := 0) dX18_test_0 0 rfl ?_
  refine xw_aload_n (pc := 1) dX18_test_1 0 rfl ?_
  refine xw_callV (pc := 2) (xr_V (as := []) ok_X18_here rfl (by decide) q1908 q1910 qs34 (by first | (rw [r1]; rfl) | (rw [y1]; rfl) | (rw [z1]; rfl)) (by first | (rw [r1]; rfl) | (rw [y1]; rfl) | (rw [z1]; rfl)) dX18_test_2 rfl rfl (Nat.le_of_ble_eq_true rfl)) (SP_X18_here hR0) ?_
  refine xw_bipush (v := nI 97) (pc := 5) dX18_test_5 (by decide +kernel) ?_
  refine xw_bipush (v := nI 102) (pc := 7) dX18_test_7 (by decide +kernel) ?_
  refine xw_callV (pc := 9) (xr_SN (as := [_, _, _]) ok_X1_isIn rfl (by decide) q1967 q784 dX18_test_9 rfl rfl (Nat.le_of_ble_eq_true rfl)) ((show XM M_X1_isIn (d + 7) [.int (hrV n ch p), .int (nI 97), .int (nI 102)] g (xOne (some (.int (bI true))) g) from ((hrV_in (by decide) (by decide) hch).trans hI) ▸ SP_X1_isIn)) ?_
  refine xw_callU (pc := 12) (xr_V (as := [_]) ok_X18_needs rfl (by decide) q1968 q1970 qs38 (by first | (rw [r1]; rfl) | (rw [y1]; rfl) | (rw [z1]; rfl)) (by first | (rw [r1]; rfl) | (rw [y1]; rfl) | (rw [z1]; rfl)) dX18_test_12 rfl rfl (Nat.le_of_ble_eq_true rfl)) (SP_X18_needs_T) ?_
  refine xw_aload_n (pc := 15) dX18_test_15 0 rfl ?_
  refine xw_callV (pc := 16) (xr_V (as := []) ok_X18_here rfl (by decide) q1908 q1910 qs34 (by first | (rw [r1]; rfl) | (rw [y1]; rfl) | (rw [z1]; rfl)) (by first | (rw [r1]; rfl) | (rw [y1]; rfl) | (rw [z1]; rfl)) dX18_test_16 rfl rfl (Nat.le_of_ble_eq_true rfl)) (SP_X18_here hR0) ?_
  rw [hrV_t hp1.1]
  refine xw_bipush (v := nI 97) (pc := 19) dX18_test_19 (by decide +kernel) ?_
  refine xn_isub (pc := 21) dX18_test_21 (by omega) ?_
  refine xw_istore_n (l' := [(1, _), (0, _)]) (pc := 22) dX18_test_22 rfl (by decide) rfl ?_
  refine xw_aload_n (pc := 23) dX18_test_23 1 rfl ?_
  refine xw_dup (pc := 24) dX18_test_24 rfl ?_
  refine xw_getNat (k := p) (pc := 25) fd_X18_22 dX18_test_25 (by first | assumption | (simp [-List.getD_eq_getElem?_getD, xE_setI, xsz_setI, xsl_setI, xtag_setI, xown_setI, xlen_setI, xE_setR, xsz_setR, xsl_setR, xtag_setR, xown_setR, xlen_setR, xE_setW, xsz_setW, xsl_setW, xtag_setW, xown_setW, xlen_setW, xi_setR, xi_setW, xr_setI, xr_setW, xww_setI, xww_setR, xi_setI, xr_setR, xww_setW, xE_new, xsz_new, xsl_new, r1, r3, r4, r5, rn, y1, y5, xsub]; done) | (simp [-List.getD_eq_getElem?_getD, xE_setI, xsz_setI, xsl_setI, xtag_setI, xown_setI, xlen_setI, xE_setR, xsz_setR, xsl_setR, xtag_setR, xown_setR, xlen_setR, xE_setW, xsz_setW, xsl_setW, xtag_setW, xown_setW, xlen_setW, xi_setR, xi_setW, xr_setI, xr_setW, xww_setI, xww_setR, xi_setI, xr_setR, xww_setW, xE_new, xsz_new, xsl_new, r1, r3, r4, r5, rn, y1, y5] <;> rfl)) (by simp [-List.getD_eq_getElem?_getD, xE_setI, xsz_setI, xsl_setI, xtag_setI, xown_setI, xlen_setI, xE_setR, xsz_setR, xsl_setR, xtag_setR, xown_setR, xlen_setR, xE_setW, xsz_setW, xsl_setW, xtag_setW, xown_setW, xlen_setW, xi_setR, xi_setW, xr_setI, xr_setW, xww_setI, xww_setR, xi_setI, xr_setR, xww_setW, xE_new, xsz_new, xsl_new, r1, r3, r4, r5, rn, y1, y5]) ?_
  refine xw_iconst (v := nI 1) (pc := 28) dX18_test_28 rfl ?_
  refine xn_iadd (pc := 29) dX18_test_29 ?_
  refine xw_putI (pc := 30) fd_X18_22 (xfin_of (by decide) (by decide +kernel)) dX18_test_30 (by first | assumption | (simp [-List.getD_eq_getElem?_getD, xE_setI, xsz_setI, xsl_setI, xtag_setI, xown_setI, xlen_setI, xE_setR, xsz_setR, xsl_setR, xtag_setR, xown_setR, xlen_setR, xE_setW, xsz_setW, xsl_setW, xtag_setW, xown_setW, xlen_setW, xi_setR, xi_setW, xr_setI, xr_setW, xww_setI, xww_setR, xi_setI, xr_setR, xww_setW, xE_new, xsz_new, xsl_new, r1, r3, r4, r5, rn, y1, y5, xsub]; done) | (simp [-List.getD_eq_getElem?_getD, xE_setI, xsz_setI, xsl_setI, xtag_setI, xown_setI, xlen_setI, xE_setR, xsz_setR, xsl_setR, xtag_setR, xown_setR, xlen_setR, xE_setW, xsz_setW, xsl_setW, xtag_setW, xown_setW, xlen_setW, xi_setR, xi_setW, xr_setI, xr_setW, xww_setI, xww_setR, xi_setI, xr_setR, xww_setW, xE_new, xsz_new, xsl_new, r1, r3, r4, r5, rn, y1, y5] <;> rfl)) (by first | assumption | (simp [-List.getD_eq_getElem?_getD, xE_setI, xsz_setI, xsl_setI, xtag_setI, xown_setI, xlen_setI, xE_setR, xsz_setR, xsl_setR, xtag_setR, xown_setR, xlen_setR, xE_setW, xsz_setW, xsl_setW, xtag_setW, xown_setW, xlen_setW, xi_setR, xi_setW, xr_setI, xr_setW, xww_setI, xww_setR, xi_setI, xr_setR, xww_setW, xE_new, xsz_new, xsl_new, r1, r3, r4, r5, rn, y1, y5]; done) | (simp [-List.getD_eq_getElem?_getD, xE_setI, xsz_setI, xsl_setI, xtag_setI, xown_setI, xlen_setI, xE_setR, xsz_setR, xsl_setR, xtag_setR, xown_setR, xlen_setR, xE_setW, xsz_setW, xsl_setW, xtag_setW, xown_setW, xlen_setW, xi_setR, xi_setW, xr_setI, xr_setW, xww_setI, xww_setR, xi_setI, xr_setR, xww_setW, xE_new, xsz_new, xsl_new, r1, r3, r4, r5, rn, y1, y5]; assumption)) ?_
  refine xw_aload_n (pc := 33) dX18_test_33 1 rfl ?_
  refine xw_callV (pc := 34) (xr_V (as := []) ok_X18_here rfl (by decide) q1908 q1910 qs34 (by first | (rw [r1]; rfl) | (rw [y1]; rfl) | (rw [z1]; rfl)) (by first | (rw [r1]; rfl) | (rw [y1]; rfl) | (rw [z1]; rfl)) dX18_test_34 rfl rfl (Nat.le_of_ble_eq_true rfl)) (SP_X18_here hR1) ?_
  rw [hrV_f h1]
  refine xw_iconst (v := -1) (pc := 37) dX18_test_37 (by decide +kernel) ?_
  refine xw_icmp_ne (pc := 38) 45 dX18_test_38 rfl (fun hb38 => ?_) (fun hb38 => ?_)
  · exfalso
    exact hb38 rfl
  refine xw_iconst (v := -1) (pc := 41) dX18_test_41 (by decide +kernel) ?_
  refine xw_goto (pc := 42) 54 dX18_test_42 rfl ?_
  refine xw_istore_n (l' := [(2, _), (1, _), (0, _)]) (pc := 54) dX18_test_54 rfl (by decide) rfl ?_
  refine xw_aload_n (pc := 55) dX18_test_55 2 rfl ?_
  refine xw_iload_n (pc := 56) dX18_test_56 0 rfl ?_
  refine xw_iconst (v := -1) (pc := 57) dX18_test_57 (by decide +kernel) ?_
  refine xw_icmp_eq (pc := 58) 65 dX18_test_58 rfl (fun hb58 => ?_) (fun hb58 => ?_)
  rotate_left
  · exfalso
    exact hb58 rfl
  refine xw_iconst (v := nI 0) (pc := 65) dX18_test_65 rfl ?_
  refine xw_callX (pc := 66) (xr_V (as := [_]) ok_X18_needs rfl (by decide) q1968 q1970 qs38 (by first | (rw [r1]; rfl) | (rw [y1]; rfl) | (rw [z1]; rfl)) (by first | (rw [r1]; rfl) | (rw [y1]; rfl) | (rw [z1]; rfl)) dX18_test_66 rfl rfl (Nat.le_of_ble_eq_true rfl)) (SP_X18_needs_F hR1) ?_
  exact xx_out0 rfl (by rw [xWr_tag]; decide) (by rw [xWr_tag]; decide) (by rw [xWr_own]; decide) ⟨xsz (xsetI g R 2 (nI (p + 1))), rfl, xWr_tag, xWr_own, F1.le, xWr_at, (xWr_fr F1).sub (fun _ h => h) (by omega)⟩

theorem SP_X18_test_F2 {d : Nat} {g : xG} {R D tb p n : Nat} {ch : Nat → Nat} (hR : xRd g R D tb p n ch) (hSC : xSC g) (hI : hIn n ch p 97 102 = true) (h1 : p + 1 < n) (hs : sgX (ch (p + 1)) = none) : XM M_X18_test (d + 8) [.ref R] g (xWro g (oEq 14) 20 (p + 1)) := by
  have hR0 := hR
  obtain ⟨r1, r2, r3, r4, r5, hB, r7, r8⟩ := hR
  have hch := hR0.chs
  have rl := hR0.lt
  have rn := hR0.own
  have hp1 := of_decide_eq_true hI
  have F1 : xFr (oEq 14) 0 g (xsetI g R 2 (nI (p + 1))) := xFr.rf.si (Or.inr r2)
  have hR1 := hR0.to (q := p + 1) (by omega)
  have hSC1 := hSC.fr F1 (by unfold oEq; omega)
  have y1 : xtag (xsetI g R 2 (nI (p + 1))) R = 15 := hR1.1
  have y5 : xi (xsetI g R 2 (nI (p + 1))) R 2 = nI (p + 1) := hR1.2.2.2.2.1
  have hR10 := hR1
  obtain ⟨sv, hST, -, -⟩ := hSC1 0 (by decide)
  have hm1 : hrV n ch (p + 1) ≠ -1 := by rw [hrV_t h1]; exact fun e => m1_ne (by have := hch _ h1; omega) e.symm
  have hs9 : fIx (gD (xTxt 0)) (ch (p + 1)) (xTxt 0).length 0 = none := hs
  refine xm_of (by decide +kernel) (Nat.le_of_ble_eq_true rfl) ?_
  show XW _ _ 0 [(0, _)] [] _ _
  refine xw_aload_n (pc := 0) dX18_test_0 0 rfl ?_
  refine xw_aload_n (pc := 1) dX18_test_1 0 rfl ?_
  refine xw_callV (pc := 2) (xr_V (as := []) ok_X18_here rfl (by decide) q1908 q1910 qs34 (by first | (rw [r1]; rfl) | (rw [y1]; rfl) | (rw [z1]; rfl)) (by first | (rw [r1]; rfl) | (rw [y1]; rfl) | (rw [z1]; rfl)) dX18_test_2 rfl rfl (Nat.le_of_ble_eq_true rfl)) (SP_X18_here hR0) ?_
  refine xw_bipush (v := nI 97) (pc := 5) dX18_test_5 (by decide +kernel) ?_
  refine xw_bipush (v := nI 102) (pc := 7) dX18_test_7 (by decide +kernel) ?_
  refine xw_callV (pc := 9) (xr_SN (as := [_, _, _]) ok_X1_isIn rfl (by decide) q1967 q784 dX18_test_9 rfl rfl (Nat.le_of_ble_eq_true rfl)) ((show XM M_X1_isIn (d + 7) [.int (hrV n ch p), .int (nI 97), .int (nI 102)] g (xOne (some (.int (bI true))) g) from ((hrV_in (by decide) (by decide) hch).trans hI) ▸ SP_X1_isIn)) ?_
  refine xw_callU (pc := 12) (xr_V (as := [_]) ok_X18_needs rfl (by decide) q1968 q1970 qs38 (by first | (rw [r1]; rfl) | (rw [y1]; rfl) | (rw [z1]; rfl)) (by first | (rw [r1]; rfl) | (rw [y1]; rfl) | (rw [z1]; rfl)) dX18_test_12 rfl rfl (Nat.le_of_ble_eq_true rfl)) (SP_X18_needs_T) ?_
  refine xw_aload_n (pc := 15) dX18_test_15 0 rfl ?_
  refine xw_callV (pc := 16) (xr_V (as := []) ok_X18_here rfl (by decide) q1908 q1910 qs34 (by first | (rw [r1]; rfl) | (rw [y1]; rfl) | (rw [z1]; rfl)) (by first | (rw [r1]; rfl) | (rw [y1]; rfl) | (rw [z1]; rfl)) dX18_test_16 rfl rfl (Nat.le_of_ble_eq_true rfl)) (SP_X18_here hR0) ?_
  rw [hrV_t hp1.1]
  refine xw_bipush (v := nI 97) (pc := 19) dX18_test_19 (by decide +kernel) ?_
  refine xn_isub (pc := 21) dX18_test_21 (by omega) ?_
  refine xw_istore_n (l' := [(1, _), (0, _)]) (pc := 22) dX18_test_22 rfl (by decide) rfl ?_
  refine xw_aload_n (pc := 23) dX18_test_23 1 rfl ?_
  refine xw_dup (pc := 24) dX18_test_24 rfl ?_
  refine xw_getNat (k := p) (pc := 25) fd_X18_22 dX18_test_25 (by first | assumption | (simp [-List.getD_eq_getElem?_getD, xE_setI, xsz_setI, xsl_setI, xtag_setI, xown_setI, xlen_setI, xE_setR, xsz_setR, xsl_setR, xtag_setR, xown_setR, xlen_setR, xE_setW, xsz_setW, xsl_setW, xtag_setW, xown_setW, xlen_setW, xi_setR, xi_setW, xr_setI, xr_setW, xww_setI, xww_setR, xi_setI, xr_setR, xww_setW, xE_new, xsz_new, xsl_new, r1, r3, r4, r5, rn, y1, y5, xsub]; done) | (simp [-List.getD_eq_getElem?_getD, xE_setI, xsz_setI, xsl_setI, xtag_setI, xown_setI, xlen_setI, xE_setR, xsz_setR, xsl_setR, xtag_setR, xown_setR, xlen_setR, xE_setW, xsz_setW, xsl_setW, xtag_setW, xown_setW, xlen_setW, xi_setR, xi_setW, xr_setI, xr_setW, xww_setI, xww_setR, xi_setI, xr_setR, xww_setW, xE_new, xsz_new, xsl_new, r1, r3, r4, r5, rn, y1, y5] <;> rfl)) (by simp [-List.getD_eq_getElem?_getD, xE_setI, xsz_setI, xsl_setI, xtag_setI, xown_setI, xlen_setI, xE_setR, xsz_setR, xsl_setR, xtag_setR, xown_setR, xlen_setR, xE_setW, xsz_setW, xsl_setW, xtag_setW, xown_setW, xlen_setW, xi_setR, xi_setW, xr_setI, xr_setW, xww_setI, xww_setR, xi_setI, xr_setR, xww_setW, xE_new, xsz_new, xsl_new, r1, r3, r4, r5, rn, y1, y5]) ?_
  refine xw_iconst (v := nI 1) (pc := 28) dX18_test_28 rfl ?_
  refine xn_iadd (pc := 29) dX18_test_29 ?_
  refine xw_putI (pc := 30) fd_X18_22 (xfin_of (by decide) (by decide +kernel)) dX18_test_30 (by first | assumption | (simp [-List.getD_eq_getElem?_getD, xE_setI, xsz_setI, xsl_setI, xtag_setI, xown_setI, xlen_setI, xE_setR, xsz_setR, xsl_setR, xtag_setR, xown_setR, xlen_setR, xE_setW, xsz_setW, xsl_setW, xtag_setW, xown_setW, xlen_setW, xi_setR, xi_setW, xr_setI, xr_setW, xww_setI, xww_setR, xi_setI, xr_setR, xww_setW, xE_new, xsz_new, xsl_new, r1, r3, r4, r5, rn, y1, y5, xsub]; done) | (simp [-List.getD_eq_getElem?_getD, xE_setI, xsz_setI, xsl_setI, xtag_setI, xown_setI, xlen_setI, xE_setR, xsz_setR, xsl_setR, xtag_setR, xown_setR, xlen_setR, xE_setW, xsz_setW, xsl_setW, xtag_setW, xown_setW, xlen_setW, xi_setR, xi_setW, xr_setI, xr_setW, xww_setI, xww_setR, xi_setI, xr_setR, xww_setW, xE_new, xsz_new, xsl_new, r1, r3, r4, r5, rn, y1, y5] <;> rfl)) (by first | assumption | (simp [-List.getD_eq_getElem?_getD, xE_setI, xsz_setI, xsl_setI, xtag_setI, xown_setI, xlen_setI, xE_setR, xsz_setR, xsl_setR, xtag_setR, xown_setR, xlen_setR, xE_setW, xsz_setW, xsl_setW, xtag_setW, xown_setW, xlen_setW, xi_setR, xi_setW, xr_setI, xr_setW, xww_setI, xww_setR, xi_setI, xr_setR, xww_setW, xE_new, xsz_new, xsl_new, r1, r3, r4, r5, rn, y1, y5]; done) | (simp [-List.getD_eq_getElem?_getD, xE_setI, xsz_setI, xsl_setI, xtag_setI, xown_setI, xlen_setI, xE_setR, xsz_setR, xsl_setR, xtag_setR, xown_setR, xlen_setR, xE_setW, xsz_setW, xsl_setW, xtag_setW, xown_setW, xlen_setW, xi_setR, xi_setW, xr_setI, xr_setW, xww_setI, xww_setR, xi_setI, xr_setR, xww_setW, xE_new, xsz_new, xsl_new, r1, r3, r4, r5, rn, y1, y5]; assumption)) ?_
  refine xw_aload_n (pc := 33) dX18_test_33 1 rfl ?_
  refine xw_callV (pc := 34) (xr_V (as := []) ok_X18_here rfl (by decide) q1908 q1910 qs34 (by first | (rw [r1]; rfl) | (rw [y1]; rfl) | (rw [z1]; rfl)) (by first | (rw [r1]; rfl) | (rw [y1]; rfl) | (rw [z1]; rfl)) dX18_test_34 rfl rfl (Nat.le_of_ble_eq_true rfl)) (SP_X18_here hR1) ?_
  refine xw_iconst (v := -1) (pc := 37) dX18_test_37 (by decide +kernel) ?_
  refine xw_icmp_ne (pc := 38) 45 dX18_test_38 rfl (fun hb38 => ?_) (fun hb38 => ?_)
  rotate_left
  · exfalso
    exact hm1 hb38
  refine xw_ldcS (i := 0) (pc := 45) dX18_test_45 rfl ?_
  refine xw_aload_n (pc := 47) dX18_test_47 1 rfl ?_
  refine xw_callV (pc := 48) (xr_V (as := []) ok_X18_here rfl (by decide) q1908 q1910 qs34 (by first | (rw [r1]; rfl) | (rw [y1]; rfl) | (rw [z1]; rfl)) (by first | (rw [r1]; rfl) | (rw [y1]; rfl) | (rw [z1]; rfl)) dX18_test_48 rfl rfl (Nat.le_of_ble_eq_true rfl)) (SP_X18_here hR1) ?_
  rw [hrV_t h1]
  refine xw_callV (pc := 51) (xr_V (as := [_]) ok_J9_indexOf rfl (by decide) q2022 q2023 q2024 (by rw [hST.1]; rfl) (by rw [hST.1]; rfl) dX18_test_51 rfl rfl (Nat.le_of_ble_eq_true rfl)) (SP_J9_indexOf hST (by rw [sg_len]; decide) (by rw [sg_len]; decide) sg_small (hch _ h1)) ?_
  rw [hs9]
  refine xw_istore_n (l' := [(2, _), (1, _), (0, _)]) (pc := 54) dX18_test_54 rfl (by decide) rfl ?_
  refine xw_aload_n (pc := 55) dX18_test_55 2 rfl ?_
  refine xw_iload_n (pc := 56) dX18_test_56 0 rfl ?_
  refine xw_iconst (v := -1) (pc := 57) dX18_test_57 (by decide +kernel) ?_
  refine xw_icmp_eq (pc := 58) 65 dX18_test_58 rfl (fun hb58 => ?_) (fun hb58 => ?_)
  rotate_left
  · exfalso
    exact hb58 rfl
  refine xw_iconst (v := nI 0) (pc := 65) dX18_test_65 rfl ?_
  refine xw_callX (pc := 66) (xr_V (as := [_]) ok_X18_needs rfl (by decide) q1968 q1970 qs38 (by first | (rw [r1]; rfl) | (rw [y1]; rfl) | (rw [z1]; rfl)) (by first | (rw [r1]; rfl) | (rw [y1]; rfl) | (rw [z1]; rfl)) dX18_test_66 rfl rfl (Nat.le_of_ble_eq_true rfl)) (SP_X18_needs_F hR1) ?_
  exact xx_out0 rfl (by rw [xWr_tag]; decide) (by rw [xWr_tag]; decide) (by rw [xWr_own]; decide) ⟨xsz (xsetI g R 2 (nI (p + 1))), rfl, xWr_tag, xWr_own, F1.le, xWr_at, (xWr_fr F1).sub (fun _ h => h) (by omega)⟩

theorem SP_X18_test_F3 {d : Nat} {g : xG} {s : Nat} {R D tb p n : Nat} {ch : Nat → Nat} (hR : xRd g R D tb p n ch) (hSC : xSC g) {eff : Option Nat} {of sc rk f l : Int32} {tl arr : Nat} {ts : List Nat} {T : List (Nat × Nat × Nat)} (hD : xDr g D eff of sc rk f l tl arr ts) (hT : xTq g ts T) (hI : hIn n ch p 97 102 = true) (h1 : p + 1 < n) (hs : sgX (ch (p + 1)) = some s) (h2 : hIn n ch (p + 1 + 1) 48 57 = false) : XM M_X18_test (d + 8) [.ref R] g (xWro g (oEq 14) 20 (p + 1 + 1)) := by
  have hR0 := hR
  obtain ⟨r1, r2, r3, r4, r5, hB, r7, r8⟩ := hR
  have hch := hR0.chs
  have rl := hR0.lt
  have rn := hR0.own
  have hp1 := of_decide_eq_true hI
  have F1 : xFr (oEq 14) 0 g (xsetI g R 2 (nI (p + 1))) := xFr.rf.si (Or.inr r2)
  have hR1 := hR0.to (q := p + 1) (by omega)
  have hSC1 := hSC.fr F1 (by unfold oEq; omega)
  have y1 : xtag (xsetI g R 2 (nI (p + 1))) R = 15 := hR1.1
  have y5 : xi (xsetI g R 2 (nI (p + 1))) R 2 = nI (p + 1) := hR1.2.2.2.2.1
  have hR10 := hR1
  obtain ⟨sv, hST, -, -⟩ := hSC1 0 (by decide)
  have hm1 : hrV n ch (p + 1) ≠ -1 := by rw [hrV_t h1]; exact fun e => m1_ne (by have := hch _ h1; omega) e.symm
  have hsl := sgX_lt hs
  have hs9 : fIx (gD (xTxt 0)) (ch (p + 1)) (xTxt 0).length 0 = some s := hs
  have F2 : xFr (oEq 14) 0 g (xsetI g R 2 (nI (p + 1 + 1))) := xFr.rf.si (Or.inr r2)
  have hR2 := hR0.to (q := p + 1 + 1) (by omega)
  have z1 : xtag (xsetI g R 2 (nI (p + 1 + 1))) R = 15 := hR2.1
  have z5 : xi (xsetI g R 2 (nI (p + 1 + 1))) R 2 = nI (p + 1 + 1) := hR2.2.2.2.2.1
  have z4 : xr (xsetI g R 2 (nI (p + 1 + 1))) R 1 = some D := hR2.2.2.2.1
  have hDt : xtag (xsetI g R 2 (nI (p + 1 + 1))) D = 16 := by rw [xtag_setI]; exact hD.1
  have hDl : xr (xsetI g R 2 (nI (p + 1 + 1))) D 6 = some tl := by rw [xr_setI]; exact hD.2.2.2.2.2.2.2.2.1
  refine xm_of (by decide +kernel) (Nat.le_of_ble_eq_true rfl) ?_
  show XW _ _ 0 [(0, _)] [] _ _
  refine xw_aload_n (pc := 0) dX18_test_0 0 rfl ?_
  refine xw_aload_n (pc := 1) dX18_test_1 0 rfl ?_
  refine xw_callV (pc := 2) (xr_V (as := []) ok_X18_here rfl (by decide) q1908 q1910 qs34 (by first | (rw [r1]; rfl) | (rw [y1]; rfl) | (rw [z1]; rfl)) (by first | (rw [r1]; rfl) | (rw [y1]; rfl) | (rw [z1]; rfl)) dX18_test_2 rfl rfl (Nat.le_of_ble_eq_true rfl)) (SP_X18_here hR0) ?_
  refine xw_bipush (v := nI 97) (pc := 5) dX18_test_5 (by decide +kernel) ?_
  refine xw_bipush (v := nI 102) (pc := 7) dX18_test_7 (by decide +kernel) ?_
  refine xw_callV (pc := 9) (xr_SN (as := [_, _, _]) ok_X1_isIn rfl (by decide) q1967 q784 dX18_test_9 rfl rfl (Nat.le_of_ble_eq_true rfl)) ((show XM M_X1_isIn (d + 7) [.int (hrV n ch p), .int (nI 97), .int (nI 102)] g (xOne (some (.int (bI true))) g) from ((hrV_in (by decide) (by decide) hch).trans hI) ▸ SP_X1_isIn)) ?_
  refine xw_callU (pc := 12) (xr_V (as := [_]) ok_X18_needs rfl (by decide) q1968 q1970 qs38 (by first | (rw [r1]; rfl) | (rw [y1]; rfl) | (rw [z1]; rfl)) (by first | (rw [r1]; rfl) | (rw [y1]; rfl) | (rw [z1]; rfl)) dX18_test_12 rfl rfl (Nat.le_of_ble_eq_true rfl)) (SP_X18_needs_T) ?_
  refine xw_aload_n (pc := 15) dX18_test_15 0 rfl ?_
  refine xw_callV (pc := 16) (xr_V (as := []) ok_X18_here rfl (by decide) q1908 q1910 qs34 (by first | (rw [r1]; rfl) | (rw [y1]; rfl) | (rw [z1]; rfl)) (by first | (rw [r1]; rfl) | (rw [y1]; rfl) | (rw [z1]; rfl)) dX18_test_16 rfl rfl (Nat.le_of_ble_eq_true rfl)) (SP_X18_here hR0) ?_
  rw [hrV_t hp1.1]
  refine xw_bipush (v := nI 97) (pc := 19) dX18_test_19 (by decide +kernel) ?_
  refine xn_isub (pc := 21) dX18_test_21 (by omega) ?_
  refine xw_istore_n (l' := [(1, _), (0, _)]) (pc := 22) dX18_test_22 rfl (by decide) rfl ?_
  refine xw_aload_n (pc := 23) dX18_test_23 1 rfl ?_
  refine xw_dup (pc := 24) dX18_test_24 rfl ?_
  refine xw_getNat (k := p) (pc := 25) fd_X18_22 dX18_test_25 (by first | assumption | (simp [-List.getD_eq_getElem?_getD, xE_setI, xsz_setI, xsl_setI, xtag_setI, xown_setI, xlen_setI, xE_setR, xsz_setR, xsl_setR, xtag_setR, xown_setR, xlen_setR, xE_setW, xsz_setW, xsl_setW, xtag_setW, xown_setW, xlen_setW, xi_setR, xi_setW, xr_setI, xr_setW, xww_setI, xww_setR, xi_setI, xr_setR, xww_setW, xE_new, xsz_new, xsl_new, r1, r3, r4, r5, rn, y1, y5, z1, z4, z5, hDt, hDl, xsub]; done) | (simp [-List.getD_eq_getElem?_getD, xE_setI, xsz_setI, xsl_setI, xtag_setI, xown_setI, xlen_setI, xE_setR, xsz_setR, xsl_setR, xtag_setR, xown_setR, xlen_setR, xE_setW, xsz_setW, xsl_setW, xtag_setW, xown_setW, xlen_setW, xi_setR, xi_setW, xr_setI, xr_setW, xww_setI, xww_setR, xi_setI, xr_setR, xww_setW, xE_new, xsz_new, xsl_new, r1, r3, r4, r5, rn, y1, y5, z1, z4, z5, hDt, hDl] <;> rfl)) (by simp [-List.getD_eq_getElem?_getD, xE_setI, xsz_setI, xsl_setI, xtag_setI, xown_setI, xlen_setI, xE_setR, xsz_setR, xsl_setR, xtag_setR, xown_setR, xlen_setR, xE_setW, xsz_setW, xsl_setW, xtag_setW, xown_setW, xlen_setW, xi_setR, xi_setW, xr_setI, xr_setW, xww_setI, xww_setR, xi_setI, xr_setR, xww_setW, xE_new, xsz_new, xsl_new, r1, r3, r4, r5, rn, y1, y5, z1, z4, z5, hDt, hDl]) ?_
  refine xw_iconst (v := nI 1) (pc := 28) dX18_test_28 rfl ?_
  refine xn_iadd (pc := 29) dX18_test_29 ?_
  refine xw_putI (pc := 30) fd_X18_22 (xfin_of (by decide) (by decide +kernel)) dX18_test_30 (by first | assumption | (simp [-List.getD_eq_getElem?_getD, xE_setI, xsz_setI, xsl_setI, xtag_setI, xown_setI, xlen_setI, xE_setR, xsz_setR, xsl_setR, xtag_setR, xown_setR, xlen_setR, xE_setW, xsz_setW, xsl_setW, xtag_setW, xown_setW, xlen_setW, xi_setR, xi_setW, xr_setI, xr_setW, xww_setI, xww_setR, xi_setI, xr_setR, xww_setW, xE_new, xsz_new, xsl_new, r1, r3, r4, r5, rn, y1, y5, z1, z4, z5, hDt, hDl, xsub]; done) | (simp [-List.getD_eq_getElem?_getD, xE_setI, xsz_setI, xsl_setI, xtag_setI, xown_setI, xlen_setI, xE_setR, xsz_setR, xsl_setR, xtag_setR, xown_setR, xlen_setR, xE_setW, xsz_setW, xsl_setW, xtag_setW, xown_setW, xlen_setW, xi_setR, xi_setW, xr_setI, xr_setW, xww_setI, xww_setR, xi_setI, xr_setR, xww_setW, xE_new, xsz_new, xsl_new, r1, r3, r4, r5, rn, y1, y5, z1, z4, z5, hDt, hDl] <;> rfl)) (by first | assumption | (simp [-List.getD_eq_getElem?_getD, xE_setI, xsz_setI, xsl_setI, xtag_setI, xown_setI, xlen_setI, xE_setR, xsz_setR, xsl_setR, xtag_setR, xown_setR, xlen_setR, xE_setW, xsz_setW, xsl_setW, xtag_setW, xown_setW, xlen_setW, xi_setR, xi_setW, xr_setI, xr_setW, xww_setI, xww_setR, xi_setI, xr_setR, xww_setW, xE_new, xsz_new, xsl_new, r1, r3, r4, r5, rn, y1, y5, z1, z4, z5, hDt, hDl]; done) | (simp [-List.getD_eq_getElem?_getD, xE_setI, xsz_setI, xsl_setI, xtag_setI, xown_setI, xlen_setI, xE_setR, xsz_setR, xsl_setR, xtag_setR, xown_setR, xlen_setR, xE_setW, xsz_setW, xsl_setW, xtag_setW, xown_setW, xlen_setW, xi_setR, xi_setW, xr_setI, xr_setW, xww_setI, xww_setR, xi_setI, xr_setR, xww_setW, xE_new, xsz_new, xsl_new, r1, r3, r4, r5, rn, y1, y5, z1, z4, z5, hDt, hDl]; assumption)) ?_
  refine xw_aload_n (pc := 33) dX18_test_33 1 rfl ?_
  refine xw_callV (pc := 34) (xr_V (as := []) ok_X18_here rfl (by decide) q1908 q1910 qs34 (by first | (rw [r1]; rfl) | (rw [y1]; rfl) | (rw [z1]; rfl)) (by first | (rw [r1]; rfl) | (rw [y1]; rfl) | (rw [z1]; rfl)) dX18_test_34 rfl rfl (Nat.le_of_ble_eq_true rfl)) (SP_X18_here hR1) ?_
  refine xw_iconst (v := -1) (pc := 37) dX18_test_37 (by decide +kernel) ?_
  refine xw_icmp_ne (pc := 38) 45 dX18_test_38 rfl (fun hb38 => ?_) (fun hb38 => ?_)
  rotate_left
  · exfalso
    exact hm1 hb38
  refine xw_ldcS (i := 0) (pc := 45) dX18_test_45 rfl ?_
  refine xw_aload_n (pc := 47) dX18_test_47 1 rfl ?_
  refine xw_callV (pc := 48) (xr_V (as := []) ok_X18_here rfl (by decide) q1908 q1910 qs34 (by first | (rw [r1]; rfl) | (rw [y1]; rfl) | (rw [z1]; rfl)) (by first | (rw [r1]; rfl) | (rw [y1]; rfl) | (rw [z1]; rfl)) dX18_test_48 rfl rfl (Nat.le_of_ble_eq_true rfl)) (SP_X18_here hR1) ?_
  rw [hrV_t h1]
  refine xw_callV (pc := 51) (xr_V (as := [_]) ok_J9_indexOf rfl (by decide) q2022 q2023 q2024 (by rw [hST.1]; rfl) (by rw [hST.1]; rfl) dX18_test_51 rfl rfl (Nat.le_of_ble_eq_true rfl)) (SP_J9_indexOf hST (by rw [sg_len]; decide) (by rw [sg_len]; decide) sg_small (hch _ h1)) ?_
  rw [hs9, show ixV (some s) = nI s from rfl]
  refine xw_istore_n (l' := [(2, _), (1, _), (0, _)]) (pc := 54) dX18_test_54 rfl (by decide) rfl ?_
  refine xw_aload_n (pc := 55) dX18_test_55 2 rfl ?_
  refine xw_iload_n (pc := 56) dX18_test_56 0 rfl ?_
  refine xw_iconst (v := -1) (pc := 57) dX18_test_57 (by decide +kernel) ?_
  refine xw_icmp_eq (pc := 58) 65 dX18_test_58 rfl (fun hb58 => ?_) (fun hb58 => ?_)
  · exfalso
    exact (m1_ne (c := s) (by omega)) hb58.symm
  refine xw_iconst (v := nI 1) (pc := 61) dX18_test_61 rfl ?_
  refine xw_goto (pc := 62) 66 dX18_test_62 rfl ?_
  refine xw_callU (pc := 66) (xr_V (as := [_]) ok_X18_needs rfl (by decide) q1968 q1970 qs38 (by first | (rw [r1]; rfl) | (rw [y1]; rfl) | (rw [z1]; rfl)) (by first | (rw [r1]; rfl) | (rw [y1]; rfl) | (rw [z1]; rfl)) dX18_test_66 rfl rfl (Nat.le_of_ble_eq_true rfl)) (SP_X18_needs_T) ?_
  refine xw_aload_n (pc := 69) dX18_test_69 2 rfl ?_
  refine xw_dup (pc := 70) dX18_test_70 rfl ?_
  refine xw_getNat (k := (p + 1)) (pc := 71) fd_X18_22 dX18_test_71 (by first | assumption | (simp [-List.getD_eq_getElem?_getD, xE_setI, xsz_setI, xsl_setI, xtag_setI, xown_setI, xlen_setI, xE_setR, xsz_setR, xsl_setR, xtag_setR, xown_setR, xlen_setR, xE_setW, xsz_setW, xsl_setW, xtag_setW, xown_setW, xlen_setW, xi_setR, xi_setW, xr_setI, xr_setW, xww_setI, xww_setR, xi_setI, xr_setR, xww_setW, xE_new, xsz_new, xsl_new, r1, r3, r4, r5, rn, y1, y5, z1, z4, z5, hDt, hDl, xsub]; done) | (simp [-List.getD_eq_getElem?_getD, xE_setI, xsz_setI, xsl_setI, xtag_setI, xown_setI, xlen_setI, xE_setR, xsz_setR, xsl_setR, xtag_setR, xown_setR, xlen_setR, xE_setW, xsz_setW, xsl_setW, xtag_setW, xown_setW, xlen_setW, xi_setR, xi_setW, xr_setI, xr_setW, xww_setI, xww_setR, xi_setI, xr_setR, xww_setW, xE_new, xsz_new, xsl_new, r1, r3, r4, r5, rn, y1, y5, z1, z4, z5, hDt, hDl] <;> rfl)) (by simp [-List.getD_eq_getElem?_getD, xE_setI, xsz_setI, xsl_setI, xtag_setI, xown_setI, xlen_setI, xE_setR, xsz_setR, xsl_setR, xtag_setR, xown_setR, xlen_setR, xE_setW, xsz_setW, xsl_setW, xtag_setW, xown_setW, xlen_setW, xi_setR, xi_setW, xr_setI, xr_setW, xww_setI, xww_setR, xi_setI, xr_setR, xww_setW, xE_new, xsz_new, xsl_new, r1, r3, r4, r5, rn, y1, y5, z1, z4, z5, hDt, hDl]) ?_
  refine xw_iconst (v := nI 1) (pc := 74) dX18_test_74 rfl ?_
  refine xn_iadd (pc := 75) dX18_test_75 ?_
  refine xw_putI (pc := 76) fd_X18_22 (xfin_of (by decide) (by decide +kernel)) dX18_test_76 (by first | assumption | (simp [-List.getD_eq_getElem?_getD, xE_setI, xsz_setI, xsl_setI, xtag_setI, xown_setI, xlen_setI, xE_setR, xsz_setR, xsl_setR, xtag_setR, xown_setR, xlen_setR, xE_setW, xsz_setW, xsl_setW, xtag_setW, xown_setW, xlen_setW, xi_setR, xi_setW, xr_setI, xr_setW, xww_setI, xww_setR, xi_setI, xr_setR, xww_setW, xE_new, xsz_new, xsl_new, r1, r3, r4, r5, rn, y1, y5, z1, z4, z5, hDt, hDl, xsub]; done) | (simp [-List.getD_eq_getElem?_getD, xE_setI, xsz_setI, xsl_setI, xtag_setI, xown_setI, xlen_setI, xE_setR, xsz_setR, xsl_setR, xtag_setR, xown_setR, xlen_setR, xE_setW, xsz_setW, xsl_setW, xtag_setW, xown_setW, xlen_setW, xi_setR, xi_setW, xr_setI, xr_setW, xww_setI, xww_setR, xi_setI, xr_setR, xww_setW, xE_new, xsz_new, xsl_new, r1, r3, r4, r5, rn, y1, y5, z1, z4, z5, hDt, hDl] <;> rfl)) (by first | assumption | (simp [-List.getD_eq_getElem?_getD, xE_setI, xsz_setI, xsl_setI, xtag_setI, xown_setI, xlen_setI, xE_setR, xsz_setR, xsl_setR, xtag_setR, xown_setR, xlen_setR, xE_setW, xsz_setW, xsl_setW, xtag_setW, xown_setW, xlen_setW, xi_setR, xi_setW, xr_setI, xr_setW, xww_setI, xww_setR, xi_setI, xr_setR, xww_setW, xE_new, xsz_new, xsl_new, r1, r3, r4, r5, rn, y1, y5, z1, z4, z5, hDt, hDl]; done) | (simp [-List.getD_eq_getElem?_getD, xE_setI, xsz_setI, xsl_setI, xtag_setI, xown_setI, xlen_setI, xE_setR, xsz_setR, xsl_setR, xtag_setR, xown_setR, xlen_setR, xE_setW, xsz_setW, xsl_setW, xtag_setW, xown_setW, xlen_setW, xi_setR, xi_setW, xr_setI, xr_setW, xww_setI, xww_setR, xi_setI, xr_setR, xww_setW, xE_new, xsz_new, xsl_new, r1, r3, r4, r5, rn, y1, y5, z1, z4, z5, hDt, hDl]; assumption)) ?_
  rw [xsetI_ov rl]
  refine xw_aload_n (pc := 79) dX18_test_79 2 rfl ?_
  refine xw_getS (b := D) (pc := 80) fd_X18_12 dX18_test_80 (by first | assumption | (simp [-List.getD_eq_getElem?_getD, xE_setI, xsz_setI, xsl_setI, xtag_setI, xown_setI, xlen_setI, xE_setR, xsz_setR, xsl_setR, xtag_setR, xown_setR, xlen_setR, xE_setW, xsz_setW, xsl_setW, xtag_setW, xown_setW, xlen_setW, xi_setR, xi_setW, xr_setI, xr_setW, xww_setI, xww_setR, xi_setI, xr_setR, xww_setW, xE_new, xsz_new, xsl_new, r1, r3, r4, r5, rn, y1, y5, z1, z4, z5, hDt, hDl, xsub]; done) | (simp [-List.getD_eq_getElem?_getD, xE_setI, xsz_setI, xsl_setI, xtag_setI, xown_setI, xlen_setI, xE_setR, xsz_setR, xsl_setR, xtag_setR, xown_setR, xlen_setR, xE_setW, xsz_setW, xsl_setW, xtag_setW, xown_setW, xlen_setW, xi_setR, xi_setW, xr_setI, xr_setW, xww_setI, xww_setR, xi_setI, xr_setR, xww_setW, xE_new, xsz_new, xsl_new, r1, r3, r4, r5, rn, y1, y5, z1, z4, z5, hDt, hDl] <;> rfl)) (by simp [-List.getD_eq_getElem?_getD, xE_setI, xsz_setI, xsl_setI, xtag_setI, xown_setI, xlen_setI, xE_setR, xsz_setR, xsl_setR, xtag_setR, xown_setR, xlen_setR, xE_setW, xsz_setW, xsl_setW, xtag_setW, xown_setW, xlen_setW, xi_setR, xi_setW, xr_setI, xr_setW, xww_setI, xww_setR, xi_setI, xr_setR, xww_setW, xE_new, xsz_new, xsl_new, r1, r3, r4, r5, rn, y1, y5, z1, z4, z5, hDt, hDl]) ?_
  refine xw_getS (b := tl) (pc := 83) fd_X18_94 dX18_test_83 (by first | assumption | (simp [-List.getD_eq_getElem?_getD, xE_setI, xsz_setI, xsl_setI, xtag_setI, xown_setI, xlen_setI, xE_setR, xsz_setR, xsl_setR, xtag_setR, xown_setR, xlen_setR, xE_setW, xsz_setW, xsl_setW, xtag_setW, xown_setW, xlen_setW, xi_setR, xi_setW, xr_setI, xr_setW, xww_setI, xww_setR, xi_setI, xr_setR, xww_setW, xE_new, xsz_new, xsl_new, r1, r3, r4, r5, rn, y1, y5, z1, z4, z5, hDt, hDl, xsub]; done) | (simp [-List.getD_eq_getElem?_getD, xE_setI, xsz_setI, xsl_setI, xtag_setI, xown_setI, xlen_setI, xE_setR, xsz_setR, xsl_setR, xtag_setR, xown_setR, xlen_setR, xE_setW, xsz_setW, xsl_setW, xtag_setW, xown_setW, xlen_setW, xi_setR, xi_setW, xr_setI, xr_setW, xww_setI, xww_setR, xi_setI, xr_setR, xww_setW, xE_new, xsz_new, xsl_new, r1, r3, r4, r5, rn, y1, y5, z1, z4, z5, hDt, hDl] <;> rfl)) (by simp [-List.getD_eq_getElem?_getD, xE_setI, xsz_setI, xsl_setI, xtag_setI, xown_setI, xlen_setI, xE_setR, xsz_setR, xsl_setR, xtag_setR, xown_setR, xlen_setR, xE_setW, xsz_setW, xsl_setW, xtag_setW, xown_setW, xlen_setW, xi_setR, xi_setW, xr_setI, xr_setW, xww_setI, xww_setR, xi_setI, xr_setR, xww_setW, xE_new, xsz_new, xsl_new, r1, r3, r4, r5, rn, y1, y5, z1, z4, z5, hDt, hDl]) ?_
  refine xw_iload_n (pc := 86) dX18_test_86 1 rfl ?_
  refine xw_iload_n (pc := 87) dX18_test_87 0 rfl ?_
  refine xw_aload_n (pc := 88) dX18_test_88 2 rfl ?_
  refine xw_callX (pc := 89) (xr_V (as := []) ok_X18_digit rfl (by decide) q1959 q1961 qs36 (by first | (rw [r1]; rfl) | (rw [y1]; rfl) | (rw [z1]; rfl)) (by first | (rw [r1]; rfl) | (rw [y1]; rfl) | (rw [z1]; rfl)) dX18_test_89 rfl rfl (Nat.le_of_ble_eq_true rfl)) (SP_X18_digitF hR2 h2) ?_
  exact xx_out0 rfl (by rw [xWr_tag]; decide) (by rw [xWr_tag]; decide) (by rw [xWr_own]; decide) ⟨xsz (xsetI g R 2 (nI (p + 1 + 1))), rfl, xWr_tag, xWr_own, F2.le, xWr_at, (xWr_fr F2).sub (fun _ h => h) (by omega)⟩

theorem SP_X18_test {d : Nat} {g : xG} {s : Nat} {R D tb p n : Nat} {ch : Nat → Nat} (hR : xRd g R D tb p n ch) (hSC : xSC g) {eff : Option Nat} {of sc rk f l : Int32} {tl arr : Nat} {ts : List Nat} {T : List (Nat × Nat × Nat)} (hD : xDr g D eff of sc rk f l tl arr ts) (hT : xTq g ts T) (hI : hIn n ch p 97 102 = true) (h1 : p + 1 < n) (hs : sgX (ch (p + 1)) = some s) (h2 : hIn n ch (p + 1 + 1) 48 57 = true) (hl : ts.length < 90) : XM M_X18_test (d + 8) [.ref R] g (xVoid (fun g' => ∃ b arr', xDr g' D eff of sc rk f l tl arr' (ts ++ [b]) ∧ xRd g' R D tb (p + 3) n ch ∧ xTq g' (ts ++ [b]) (T ++ [(ch p - 97, s, ch (p + 1 + 1) - 48)]) ∧ xFr o145 1010 g g')) := by
  have hD0 := hD
  have hR0 := hR
  obtain ⟨r1, r2, r3, r4, r5, hB, r7, r8⟩ := hR
  have hch := hR0.chs
  have rl := hR0.lt
  have rn := hR0.own
  have hp1 := of_decide_eq_true hI
  have F1 : xFr (oEq 14) 0 g (xsetI g R 2 (nI (p + 1))) := xFr.rf.si (Or.inr r2)
  have hR1 := hR0.to (q := p + 1) (by omega)
  have hSC1 := hSC.fr F1 (by unfold oEq; omega)
  have y1 : xtag (xsetI g R 2 (nI (p + 1))) R = 15 := hR1.1
  have y5 : xi (xsetI g R 2 (nI (p + 1))) R 2 = nI (p + 1) := hR1.2.2.2.2.1
  have hR10 := hR1
  obtain ⟨sv, hST, -, -⟩ := hSC1 0 (by decide)
  have hm1 : hrV n ch (p + 1) ≠ -1 := by rw [hrV_t h1]; exact fun e => m1_ne (by have := hch _ h1; omega) e.symm
  have hsl := sgX_lt hs
  have hs9 : fIx (gD (xTxt 0)) (ch (p + 1)) (xTxt 0).length 0 = some s := hs
  have F2 : xFr (oEq 14) 0 g (xsetI g R 2 (nI (p + 1 + 1))) := xFr.rf.si (Or.inr r2)
  have hR2 := hR0.to (q := p + 1 + 1) (by omega)
  have z1 : xtag (xsetI g R 2 (nI (p + 1 + 1))) R = 15 := hR2.1
  have z5 : xi (xsetI g R 2 (nI (p + 1 + 1))) R 2 = nI (p + 1 + 1) := hR2.2.2.2.2.1
  have z4 : xr (xsetI g R 2 (nI (p + 1 + 1))) R 1 = some D := hR2.2.2.2.1
  have hDt : xtag (xsetI g R 2 (nI (p + 1 + 1))) D = 16 := by rw [xtag_setI]; exact hD.1
  have hDl : xr (xsetI g R 2 (nI (p + 1 + 1))) D 6 = some tl := by rw [xr_setI]; exact hD.2.2.2.2.2.2.2.2.1
  have hq2 := of_decide_eq_true h2
  have F3 : xFr (oEq 14) 0 g (xsetI g R 2 (nI (p + 3))) := xFr.rf.si (Or.inr r2)
  have hR3 := hR0.to (q := p + 3) (by omega)
  refine xm_of (by decide +kernel) (Nat.le_of_ble_eq_true rfl) ?_
  show XW _ _ 0 [(0, _)] [] _ _
  refine xw_aload_n (pc := 0) dX18_test_0 0 rfl ?_
  refine xw_aload_n (pc := 1) dX18_test_1 0 rfl ?_
  refine xw_callV (pc := 2) (xr_V (as := []) ok_X18_here rfl (by decide) q1908 q1910 qs34 (by first | (rw [r1]; rfl) | (rw [y1]; rfl) | (rw [z1]; rfl)) (by first | (rw [r1]; rfl) | (rw [y1]; rfl) | (rw [z1]; rfl)) dX18_test_2 rfl rfl (Nat.le_of_ble_eq_true rfl)) (SP_X18_here hR0) ?_
  refine xw_bipush (v := nI 97) (pc := 5) dX18_test_5 (by decide +kernel) ?_
  refine xw_bipush (v := nI 102) (pc := 7) dX18_test_7 (by decide +kernel) ?_
  refine xw_callV (pc := 9) (xr_SN (as := [_, _, _]) ok_X1_isIn rfl (by decide) q1967 q784 dX18_test_9 rfl rfl (Nat.le_of_ble_eq_true rfl)) ((show XM M_X1_isIn (d + 7) [.int (hrV n ch p), .int (nI 97), .int (nI 102)] g (xOne (some (.int (bI true))) g) from ((hrV_in (by decide) (by decide) hch).trans hI) ▸ SP_X1_isIn)) ?_
  refine xw_callU (pc := 12) (xr_V (as := [_]) ok_X18_needs rfl (by decide) q1968 q1970 qs38 (by first | (rw [r1]; rfl) | (rw [y1]; rfl) | (rw [z1]; rfl)) (by first | (rw [r1]; rfl) | (rw [y1]; rfl) | (rw [z1]; rfl)) dX18_test_12 rfl rfl (Nat.le_of_ble_eq_true rfl)) (SP_X18_needs_T) ?_
  refine xw_aload_n (pc := 15) dX18_test_15 0 rfl ?_
  refine xw_callV (pc := 16) (xr_V (as := []) ok_X18_here rfl (by decide) q1908 q1910 qs34 (by first | (rw [r1]; rfl) | (rw [y1]; rfl) | (rw [z1]; rfl)) (by first | (rw [r1]; rfl) | (rw [y1]; rfl) | (rw [z1]; rfl)) dX18_test_16 rfl rfl (Nat.le_of_ble_eq_true rfl)) (SP_X18_here hR0) ?_
  rw [hrV_t hp1.1]
  refine xw_bipush (v := nI 97) (pc := 19) dX18_test_19 (by decide +kernel) ?_
  refine xn_isub (pc := 21) dX18_test_21 (by omega) ?_
  refine xw_istore_n (l' := [(1, _), (0, _)]) (pc := 22) dX18_test_22 rfl (by decide) rfl ?_
  refine xw_aload_n (pc := 23) dX18_test_23 1 rfl ?_
  refine xw_dup (pc := 24) dX18_test_24 rfl ?_
  refine xw_getNat (k := p) (pc := 25) fd_X18_22 dX18_test_25 (by first | assumption | (simp [-List.getD_eq_getElem?_getD, xE_setI, xsz_setI, xsl_setI, xtag_setI, xown_setI, xlen_setI, xE_setR, xsz_setR, xsl_setR, xtag_setR, xown_setR, xlen_setR, xE_setW, xsz_setW, xsl_setW, xtag_setW, xown_setW, xlen_setW, xi_setR, xi_setW, xr_setI, xr_setW, xww_setI, xww_setR, xi_setI, xr_setR, xww_setW, xE_new, xsz_new, xsl_new, r1, r3, r4, r5, rn, y1, y5, z1, z4, z5, hDt, hDl, xsub]; done) | (simp [-List.getD_eq_getElem?_getD, xE_setI, xsz_setI, xsl_setI, xtag_setI, xown_setI, xlen_setI, xE_setR, xsz_setR, xsl_setR, xtag_setR, xown_setR, xlen_setR, xE_setW, xsz_setW, xsl_setW, xtag_setW, xown_setW, xlen_setW, xi_setR, xi_setW, xr_setI, xr_setW, xww_setI, xww_setR, xi_setI, xr_setR, xww_setW, xE_new, xsz_new, xsl_new, r1, r3, r4, r5, rn, y1, y5, z1, z4, z5, hDt, hDl] <;> rfl)) (by simp [-List.getD_eq_getElem?_getD, xE_setI, xsz_setI, xsl_setI, xtag_setI, xown_setI, xlen_setI, xE_setR, xsz_setR, xsl_setR, xtag_setR, xown_setR, xlen_setR, xE_setW, xsz_setW, xsl_setW, xtag_setW, xown_setW, xlen_setW, xi_setR, xi_setW, xr_setI, xr_setW, xww_setI, xww_setR, xi_setI, xr_setR, xww_setW, xE_new, xsz_new, xsl_new, r1, r3, r4, r5, rn, y1, y5, z1, z4, z5, hDt, hDl]) ?_
  refine xw_iconst (v := nI 1) (pc := 28) dX18_test_28 rfl ?_
  refine xn_iadd (pc := 29) dX18_test_29 ?_
  refine xw_putI (pc := 30) fd_X18_22 (xfin_of (by decide) (by decide +kernel)) dX18_test_30 (by first | assumption | (simp [-List.getD_eq_getElem?_getD, xE_setI, xsz_setI, xsl_setI, xtag_setI, xown_setI, xlen_setI, xE_setR, xsz_setR, xsl_setR, xtag_setR, xown_setR, xlen_setR, xE_setW, xsz_setW, xsl_setW, xtag_setW, xown_setW, xlen_setW, xi_setR, xi_setW, xr_setI, xr_setW, xww_setI, xww_setR, xi_setI, xr_setR, xww_setW, xE_new, xsz_new, xsl_new, r1, r3, r4, r5, rn, y1, y5, z1, z4, z5, hDt, hDl, xsub]; done) | (simp [-List.getD_eq_getElem?_getD, xE_setI, xsz_setI, xsl_setI, xtag_setI, xown_setI, xlen_setI, xE_setR, xsz_setR, xsl_setR, xtag_setR, xown_setR, xlen_setR, xE_setW, xsz_setW, xsl_setW, xtag_setW, xown_setW, xlen_setW, xi_setR, xi_setW, xr_setI, xr_setW, xww_setI, xww_setR, xi_setI, xr_setR, xww_setW, xE_new, xsz_new, xsl_new, r1, r3, r4, r5, rn, y1, y5, z1, z4, z5, hDt, hDl] <;> rfl)) (by first | assumption | (simp [-List.getD_eq_getElem?_getD, xE_setI, xsz_setI, xsl_setI, xtag_setI, xown_setI, xlen_setI, xE_setR, xsz_setR, xsl_setR, xtag_setR, xown_setR, xlen_setR, xE_setW, xsz_setW, xsl_setW, xtag_setW, xown_setW, xlen_setW, xi_setR, xi_setW, xr_setI, xr_setW, xww_setI, xww_setR, xi_setI, xr_setR, xww_setW, xE_new, xsz_new, xsl_new, r1, r3, r4, r5, rn, y1, y5, z1, z4, z5, hDt, hDl]; done) | (simp [-List.getD_eq_getElem?_getD, xE_setI, xsz_setI, xsl_setI, xtag_setI, xown_setI, xlen_setI, xE_setR, xsz_setR, xsl_setR, xtag_setR, xown_setR, xlen_setR, xE_setW, xsz_setW, xsl_setW, xtag_setW, xown_setW, xlen_setW, xi_setR, xi_setW, xr_setI, xr_setW, xww_setI, xww_setR, xi_setI, xr_setR, xww_setW, xE_new, xsz_new, xsl_new, r1, r3, r4, r5, rn, y1, y5, z1, z4, z5, hDt, hDl]; assumption)) ?_
  refine xw_aload_n (pc := 33) dX18_test_33 1 rfl ?_
  refine xw_callV (pc := 34) (xr_V (as := []) ok_X18_here rfl (by decide) q1908 q1910 qs34 (by first | (rw [r1]; rfl) | (rw [y1]; rfl) | (rw [z1]; rfl)) (by first | (rw [r1]; rfl) | (rw [y1]; rfl) | (rw [z1]; rfl)) dX18_test_34 rfl rfl (Nat.le_of_ble_eq_true rfl)) (SP_X18_here hR1) ?_
  refine xw_iconst (v := -1) (pc := 37) dX18_test_37 (by decide +kernel) ?_
  refine xw_icmp_ne (pc := 38) 45 dX18_test_38 rfl (fun hb38 => ?_) (fun hb38 => ?_)
  rotate_left
  · exfalso
    exact hm1 hb38
  refine xw_ldcS (i := 0) (pc := 45) dX18_test_45 rfl ?_
  refine xw_aload_n (pc := 47) dX18_test_47 1 rfl ?_
  refine xw_callV (pc := 48) (xr_V (as := []) ok_X18_here rfl (by decide) q1908 q1910 qs34 (by first | (rw [r1]; rfl) | (rw [y1]; rfl) | (rw [z1]; rfl)) (by first | (rw [r1]; rfl) | (rw [y1]; rfl) | (rw [z1]; rfl)) dX18_test_48 rfl rfl (Nat.le_of_ble_eq_true rfl)) (SP_X18_here hR1) ?_
  rw [hrV_t h1]
  refine xw_callV (pc := 51) (xr_V (as := [_]) ok_J9_indexOf rfl (by decide) q2022 q2023 q2024 (by rw [hST.1]; rfl) (by rw [hST.1]; rfl) dX18_test_51 rfl rfl (Nat.le_of_ble_eq_true rfl)) (SP_J9_indexOf hST (by rw [sg_len]; decide) (by rw [sg_len]; decide) sg_small (hch _ h1)) ?_
  rw [hs9, show ixV (some s) = nI s from rfl]
  refine xw_istore_n (l' := [(2, _), (1, _), (0, _)]) (pc := 54) dX18_test_54 rfl (by decide) rfl ?_
  refine xw_aload_n (pc := 55) dX18_test_55 2 rfl ?_
  refine xw_iload_n (pc := 56) dX18_test_56 0 rfl ?_
  refine xw_iconst (v := -1) (pc := 57) dX18_test_57 (by decide +kernel) ?_
  refine xw_icmp_eq (pc := 58) 65 dX18_test_58 rfl (fun hb58 => ?_) (fun hb58 => ?_)
  · exfalso
    exact (m1_ne (c := s) (by omega)) hb58.symm
  refine xw_iconst (v := nI 1) (pc := 61) dX18_test_61 rfl ?_
  refine xw_goto (pc := 62) 66 dX18_test_62 rfl ?_
  refine xw_callU (pc := 66) (xr_V (as := [_]) ok_X18_needs rfl (by decide) q1968 q1970 qs38 (by first | (rw [r1]; rfl) | (rw [y1]; rfl) | (rw [z1]; rfl)) (by first | (rw [r1]; rfl) | (rw [y1]; rfl) | (rw [z1]; rfl)) dX18_test_66 rfl rfl (Nat.le_of_ble_eq_true rfl)) (SP_X18_needs_T) ?_
  refine xw_aload_n (pc := 69) dX18_test_69 2 rfl ?_
  refine xw_dup (pc := 70) dX18_test_70 rfl ?_
  refine xw_getNat (k := (p + 1)) (pc := 71) fd_X18_22 dX18_test_71 (by first | assumption | (simp [-List.getD_eq_getElem?_getD, xE_setI, xsz_setI, xsl_setI, xtag_setI, xown_setI, xlen_setI, xE_setR, xsz_setR, xsl_setR, xtag_setR, xown_setR, xlen_setR, xE_setW, xsz_setW, xsl_setW, xtag_setW, xown_setW, xlen_setW, xi_setR, xi_setW, xr_setI, xr_setW, xww_setI, xww_setR, xi_setI, xr_setR, xww_setW, xE_new, xsz_new, xsl_new, r1, r3, r4, r5, rn, y1, y5, z1, z4, z5, hDt, hDl, xsub]; done) | (simp [-List.getD_eq_getElem?_getD, xE_setI, xsz_setI, xsl_setI, xtag_setI, xown_setI, xlen_setI, xE_setR, xsz_setR, xsl_setR, xtag_setR, xown_setR, xlen_setR, xE_setW, xsz_setW, xsl_setW, xtag_setW, xown_setW, xlen_setW, xi_setR, xi_setW, xr_setI, xr_setW, xww_setI, xww_setR, xi_setI, xr_setR, xww_setW, xE_new, xsz_new, xsl_new, r1, r3, r4, r5, rn, y1, y5, z1, z4, z5, hDt, hDl] <;> rfl)) (by simp [-List.getD_eq_getElem?_getD, xE_setI, xsz_setI, xsl_setI, xtag_setI, xown_setI, xlen_setI, xE_setR, xsz_setR, xsl_setR, xtag_setR, xown_setR, xlen_setR, xE_setW, xsz_setW, xsl_setW, xtag_setW, xown_setW, xlen_setW, xi_setR, xi_setW, xr_setI, xr_setW, xww_setI, xww_setR, xi_setI, xr_setR, xww_setW, xE_new, xsz_new, xsl_new, r1, r3, r4, r5, rn, y1, y5, z1, z4, z5, hDt, hDl]) ?_
  refine xw_iconst (v := nI 1) (pc := 74) dX18_test_74 rfl ?_
  refine xn_iadd (pc := 75) dX18_test_75 ?_
  refine xw_putI (pc := 76) fd_X18_22 (xfin_of (by decide) (by decide +kernel)) dX18_test_76 (by first | assumption | (simp [-List.getD_eq_getElem?_getD, xE_setI, xsz_setI, xsl_setI, xtag_setI, xown_setI, xlen_setI, xE_setR, xsz_setR, xsl_setR, xtag_setR, xown_setR, xlen_setR, xE_setW, xsz_setW, xsl_setW, xtag_setW, xown_setW, xlen_setW, xi_setR, xi_setW, xr_setI, xr_setW, xww_setI, xww_setR, xi_setI, xr_setR, xww_setW, xE_new, xsz_new, xsl_new, r1, r3, r4, r5, rn, y1, y5, z1, z4, z5, hDt, hDl, xsub]; done) | (simp [-List.getD_eq_getElem?_getD, xE_setI, xsz_setI, xsl_setI, xtag_setI, xown_setI, xlen_setI, xE_setR, xsz_setR, xsl_setR, xtag_setR, xown_setR, xlen_setR, xE_setW, xsz_setW, xsl_setW, xtag_setW, xown_setW, xlen_setW, xi_setR, xi_setW, xr_setI, xr_setW, xww_setI, xww_setR, xi_setI, xr_setR, xww_setW, xE_new, xsz_new, xsl_new, r1, r3, r4, r5, rn, y1, y5, z1, z4, z5, hDt, hDl] <;> rfl)) (by first | assumption | (simp [-List.getD_eq_getElem?_getD, xE_setI, xsz_setI, xsl_setI, xtag_setI, xown_setI, xlen_setI, xE_setR, xsz_setR, xsl_setR, xtag_setR, xown_setR, xlen_setR, xE_setW, xsz_setW, xsl_setW, xtag_setW, xown_setW, xlen_setW, xi_setR, xi_setW, xr_setI, xr_setW, xww_setI, xww_setR, xi_setI, xr_setR, xww_setW, xE_new, xsz_new, xsl_new, r1, r3, r4, r5, rn, y1, y5, z1, z4, z5, hDt, hDl]; done) | (simp [-List.getD_eq_getElem?_getD, xE_setI, xsz_setI, xsl_setI, xtag_setI, xown_setI, xlen_setI, xE_setR, xsz_setR, xsl_setR, xtag_setR, xown_setR, xlen_setR, xE_setW, xsz_setW, xsl_setW, xtag_setW, xown_setW, xlen_setW, xi_setR, xi_setW, xr_setI, xr_setW, xww_setI, xww_setR, xi_setI, xr_setR, xww_setW, xE_new, xsz_new, xsl_new, r1, r3, r4, r5, rn, y1, y5, z1, z4, z5, hDt, hDl]; assumption)) ?_
  rw [xsetI_ov rl]
  refine xw_aload_n (pc := 79) dX18_test_79 2 rfl ?_
  refine xw_getS (b := D) (pc := 80) fd_X18_12 dX18_test_80 (by first | assumption | (simp [-List.getD_eq_getElem?_getD, xE_setI, xsz_setI, xsl_setI, xtag_setI, xown_setI, xlen_setI, xE_setR, xsz_setR, xsl_setR, xtag_setR, xown_setR, xlen_setR, xE_setW, xsz_setW, xsl_setW, xtag_setW, xown_setW, xlen_setW, xi_setR, xi_setW, xr_setI, xr_setW, xww_setI, xww_setR, xi_setI, xr_setR, xww_setW, xE_new, xsz_new, xsl_new, r1, r3, r4, r5, rn, y1, y5, z1, z4, z5, hDt, hDl, xsub]; done) | (simp [-List.getD_eq_getElem?_getD, xE_setI, xsz_setI, xsl_setI, xtag_setI, xown_setI, xlen_setI, xE_setR, xsz_setR, xsl_setR, xtag_setR, xown_setR, xlen_setR, xE_setW, xsz_setW, xsl_setW, xtag_setW, xown_setW, xlen_setW, xi_setR, xi_setW, xr_setI, xr_setW, xww_setI, xww_setR, xi_setI, xr_setR, xww_setW, xE_new, xsz_new, xsl_new, r1, r3, r4, r5, rn, y1, y5, z1, z4, z5, hDt, hDl] <;> rfl)) (by simp [-List.getD_eq_getElem?_getD, xE_setI, xsz_setI, xsl_setI, xtag_setI, xown_setI, xlen_setI, xE_setR, xsz_setR, xsl_setR, xtag_setR, xown_setR, xlen_setR, xE_setW, xsz_setW, xsl_setW, xtag_setW, xown_setW, xlen_setW, xi_setR, xi_setW, xr_setI, xr_setW, xww_setI, xww_setR, xi_setI, xr_setR, xww_setW, xE_new, xsz_new, xsl_new, r1, r3, r4, r5, rn, y1, y5, z1, z4, z5, hDt, hDl]) ?_
  refine xw_getS (b := tl) (pc := 83) fd_X18_94 dX18_test_83 (by first | assumption | (simp [-List.getD_eq_getElem?_getD, xE_setI, xsz_setI, xsl_setI, xtag_setI, xown_setI, xlen_setI, xE_setR, xsz_setR, xsl_setR, xtag_setR, xown_setR, xlen_setR, xE_setW, xsz_setW, xsl_setW, xtag_setW, xown_setW, xlen_setW, xi_setR, xi_setW, xr_setI, xr_setW, xww_setI, xww_setR, xi_setI, xr_setR, xww_setW, xE_new, xsz_new, xsl_new, r1, r3, r4, r5, rn, y1, y5, z1, z4, z5, hDt, hDl, xsub]; done) | (simp [-List.getD_eq_getElem?_getD, xE_setI, xsz_setI, xsl_setI, xtag_setI, xown_setI, xlen_setI, xE_setR, xsz_setR, xsl_setR, xtag_setR, xown_setR, xlen_setR, xE_setW, xsz_setW, xsl_setW, xtag_setW, xown_setW, xlen_setW, xi_setR, xi_setW, xr_setI, xr_setW, xww_setI, xww_setR, xi_setI, xr_setR, xww_setW, xE_new, xsz_new, xsl_new, r1, r3, r4, r5, rn, y1, y5, z1, z4, z5, hDt, hDl] <;> rfl)) (by simp [-List.getD_eq_getElem?_getD, xE_setI, xsz_setI, xsl_setI, xtag_setI, xown_setI, xlen_setI, xE_setR, xsz_setR, xsl_setR, xtag_setR, xown_setR, xlen_setR, xE_setW, xsz_setW, xsl_setW, xtag_setW, xown_setW, xlen_setW, xi_setR, xi_setW, xr_setI, xr_setW, xww_setI, xww_setR, xi_setI, xr_setR, xww_setW, xE_new, xsz_new, xsl_new, r1, r3, r4, r5, rn, y1, y5, z1, z4, z5, hDt, hDl]) ?_
  refine xw_iload_n (pc := 86) dX18_test_86 1 rfl ?_
  refine xw_iload_n (pc := 87) dX18_test_87 0 rfl ?_
  refine xw_aload_n (pc := 88) dX18_test_88 2 rfl ?_
  refine xw_callV (pc := 89) (xr_V (as := []) ok_X18_digit rfl (by decide) q1959 q1961 qs36 (by first | (rw [r1]; rfl) | (rw [y1]; rfl) | (rw [z1]; rfl)) (by first | (rw [r1]; rfl) | (rw [y1]; rfl) | (rw [z1]; rfl)) dX18_test_89 rfl rfl (Nat.le_of_ble_eq_true rfl)) (SP_X18_digit hR2 h2) ?_
  rw [xsetI_ov rl]
  refine xw_callF (pc := 92) (xr_SN (as := [_, _, _]) ok_X1_testBy rfl (by decide) q2068 q1373 dX18_test_92 rfl rfl (Nat.le_of_ble_eq_true rfl)) (SP_X1_testBy s hsl) ?_
  intro g92 hc92 hm92
  obtain ⟨b1, b2, b3, b4, fb⟩ := hc92
  have hAL92 : xAL g92 15 tl arr ts := (hD0.2.2.2.2.2.2.2.2.2.fr F3 (by unfold oEq; omega)).fr fb (by unfold oNo; exact id)
  refine xw_callF (pc := 95) (xr_V (as := [_]) ok_J2_add rfl (by decide) q2069 q529 q530 (by rw [hAL92.1]; rfl) (by rw [hAL92.1]; rfl) dX18_test_95 rfl rfl (Nat.le_of_ble_eq_true rfl)) (SP_J2_addG hAL92 (by decide) ((hT.fr F3 (by unfold oEq; omega)).fr fb (by unfold oNo; exact id)).obj (xObj_T (by rw [b1]; omega) (by rw [b1]; omega)) (by omega)) ?_
  intro g95 hc95 hm95
  obtain ⟨arr', hA95, -, hF95⟩ := hc95
  refine xw_pop (pc := 98) dX18_test_98 rfl ?_
  refine xw_vret (pc := 99) dX18_test_99 rfl ?_
  have FF : xFr o145 (0 + 3 + 1000) g g95 := ((F3.sub (O' := o145) (fun _ h => Or.inl h) (Nat.le_refl _)).tr (fb.sub (fun _ h => h.elim) (Nat.le_refl _))).tr (hF95.sub (fun _ h => Or.inr h) (Nat.le_refl _))
  refine ⟨rfl, xsz (xsetI g R 2 (nI (p + 3))), arr', ?_, ?_, ?_, FF.sub (fun _ h => h) (by omega)⟩
  · have hdl : D < xsz g := xlt (by rw [hD0.1]; decide)
    have hdn : ∀ (O : Nat → Prop), ¬ O 14 → ¬ O (xown g D) := fun O h => by rw [hD0.2.1]; exact h
    have nRD : D ≠ R := by intro e9; have h9 := hD0.1; rw [e9, r1] at h9; exact absurd h9 (by decide)
    have FA : xFr (oEq 15) (3 + 1000) (xsetI g R 2 (nI (p + 3))) g95 := (fb.sub (fun _ h => h.elim) (Nat.le_refl _)).tr hF95
    have hdl3 : D < xsz (xsetI g R 2 (nI (p + 3))) := hdl
    have hown3 : xown (xsetI g R 2 (nI (p + 3))) D = 14 := by rw [xown_setI]; exact hD0.2.1
    have no3 : ¬ oEq 15 (xown (xsetI g R 2 (nI (p + 3))) D) := by rw [hown3]; unfold oEq; omega
    have ei : ∀ j, xi g95 D j = xi g D j := fun j => (FA.i' hdl3 no3).trans (xi_of (xc_setI nRD) j)
    have er : ∀ j, xr g95 D j = xr g D j := fun j => (FA.r' hdl3 no3).trans xr_setI
    obtain ⟨a1, a2, a3, a4, a5, a6, a7, a8, a9, a10⟩ := hD0
    exact ⟨(FA.tag hdl3).trans (by rw [xtag_setI]; exact a1), (FA.own hdl3).trans hown3, (er 0).trans a3, (ei 1).trans a4, (ei 2).trans a5, (ei 3).trans a6, (ei 4).trans a7, (ei 5).trans a8, (er 6).trans a9, hA95⟩
  · exact (hR3.fr fb (by unfold oNo; exact id) (by unfold oNo; exact id)).fr hF95 (by unfold oEq; omega) (by unfold oEq; omega)
  · exact ((hT.fr F3 (by unfold oEq; omega)).fr fb (by unfold oNo; exact id)).push b1 hsl b2 b3 b4 |>.fr hF95 (by unfold oEq; omega)

