/-! CLASS 55: the reader: tests -/
set_option maxRecDepth 100000
abbrev xT3 : Type := Nat × Nat × Nat
theorem xWro.sub {g : xG} {O O' : Nat → Prop} {N M f : Nat} {rs : Option Value ⊕ Nat} {g' : xG} (h : xWro g O N f rs g') (hO : ∀ o, O o → O' o) (hN : N ≤ M) : xWro g O' M f rs g' := by
  obtain ⟨q, e, h1, h2, h3, h4, h5⟩ := h
  exact ⟨q, e, h1, h2, h3, h4, h5.sub hO hN⟩
theorem SP_X18_test_E {d : Nat} {g : xG} {R D tb p n e : Nat} {ch : Nat → Nat} (hR : xRd g R D tb p n ch) (hSC : xSC g) {eff : Option Nat} {of sc rk f l : Int32} {tl arr : Nat} {ts : List Nat} {T : List xT3} (hD : xDr g D eff of sc rk f l tl arr ts) (hT : xTq g ts T) (h : rTo n ch p = .error e) : XM M_X18_test (d + 8) [.ref R] g (xWro g (oEq 14) 20 e) := by
  unfold rTo at h
  by_cases hI : hIn n ch p 97 102 = true
  · rw [if_pos hI] at h
    by_cases h1 : p + 1 < n
    · rw [if_pos h1] at h
      cases hs : sgX (ch (p + 1)) with
      | none =>
        rw [hs] at h
        cases h
        exact SP_X18_test_F2 hR hSC hI h1 hs
      | some s =>
        rw [hs] at h
        dsimp only at h
        by_cases h2 : hIn n ch (p + 2) 48 57 = true
        · rw [if_pos h2] at h; cases h
        · rw [if_neg h2] at h
          cases h
          exact SP_X18_test_F3 hR hSC hD hT hI h1 hs (Bool.eq_false_iff.mpr h2)
    · rw [if_neg h1] at h
      cases h
      exact SP_X18_test_F1 hR hSC hI h1
  · rw [if_neg hI] at h
    cases h
    exact SP_X18_test_F0 hR hSC (Bool.eq_false_iff.mpr hI)
theorem SP_X18_test_O {d : Nat} {g : xG} {R D tb p n : Nat} {t : xT3} {ch : Nat → Nat} (hR : xRd g R D tb p n ch) (hSC : xSC g) {eff : Option Nat} {of sc rk f l : Int32} {tl arr : Nat} {ts : List Nat} {T : List xT3} (hD : xDr g D eff of sc rk f l tl arr ts) (hT : xTq g ts T) (hl : ts.length < 90) (h : rTo n ch p = .ok t) : XM M_X18_test (d + 8) [.ref R] g (xVoid (fun g' => ∃ b arr', xDr g' D eff of sc rk f l tl arr' (ts ++ [b]) ∧ xRd g' R D tb (p + 3) n ch ∧ xTq g' (ts ++ [b]) (T ++ [t]) ∧ xFr o145 1010 g g')) := by
  unfold rTo at h
  by_cases hI : hIn n ch p 97 102 = true
  · rw [if_pos hI] at h
    by_cases h1 : p + 1 < n
    · rw [if_pos h1] at h
      cases hs : sgX (ch (p + 1)) with
      | none => rw [hs] at h; cases h
      | some s =>
        rw [hs] at h
        dsimp only at h
        by_cases h2 : hIn n ch (p + 2) 48 57 = true
        · rw [if_pos h2] at h
          cases h
          exact SP_X18_test hR hSC hD hT hI h1 hs h2 hl
        · rw [if_neg h2] at h; cases h
    · rw [if_neg h1] at h; cases h
  · rw [if_neg hI] at h; cases h
theorem rTo_lt {n p : Nat} {ch : Nat → Nat} {t : xT3} (h : rTo n ch p = .ok t) : p + 3 ≤ n := by
  unfold rTo at h
  by_cases hI : hIn n ch p 97 102 = true
  · rw [if_pos hI] at h
    by_cases h1 : p + 1 < n
    · rw [if_pos h1] at h
      cases hs : sgX (ch (p + 1)) with
      | none => rw [hs] at h; cases h
      | some s =>
        rw [hs] at h
        dsimp only at h
        by_cases h2 : hIn n ch (p + 2) 48 57 = true
        · have := (of_decide_eq_true h2).1
          omega
        · rw [if_neg h2] at h; cases h
    · rw [if_neg h1] at h; cases h
  · rw [if_neg hI] at h; cases h
/-- more tests, up to the closing bracket -/
def rMo (n : Nat) (ch : Nat → Nat) : Nat → Nat → List xT3 → Except Nat (List xT3 × Nat)
  | 0, p, _ => .error p
  | k + 1, p, T => if hIs n ch p 44 = true then (match rTo n ch (p + 1) with
    | .ok t => rMo n ch k (p + 4) (T ++ [t])
    | .error e => .error e) else if hIs n ch p 41 = true then .ok (T, p + 1) else .error p
def rTs (n : Nat) (ch : Nat → Nat) (p : Nat) : Except Nat (List xT3 × Nat) := if hIs n ch p 40 = true then (if hIs n ch (p + 1) 41 = true then .ok ([], p + 2) else (match rTo n ch (p + 1) with
    | .ok t => rMo n ch (n + 1) (p + 4) [t]
    | .error e => .error e)) else .error p
/-- what the reader's tests answer -/
def xRT (g : xG) (R D tb n : Nat) (ch : Nat → Nat) (eff : Option Nat) (of sc rk f l : Int32) (tl N : Nat) (X : Except Nat (List xT3 × Nat)) (rs : Option Value ⊕ Nat) (g' : xG) : Prop := match X with
  | .ok (T, q) => rs = .inl none ∧ ∃ ts arr, xDr g' D eff of sc rk f l tl arr ts ∧ xRd g' R D tb q n ch ∧ xTq g' ts T ∧ T.length ≤ 15 ∧ xFr o145 N g g'
  | .error e => xWro g o145 N e rs g'
theorem xRT.fr {g g1 : xG} {R D tb n tl N N1 M : Nat} {ch : Nat → Nat} {eff : Option Nat} {of sc rk f l : Int32} {X : Except Nat (List xT3 × Nat)} {rs : Option Value ⊕ Nat} {g' : xG} (h : xRT g1 R D tb n ch eff of sc rk f l tl N X rs g') (F : xFr o145 N1 g g1) (hN : N1 + N ≤ M) : xRT g R D tb n ch eff of sc rk f l tl M X rs g' := by
  unfold xRT at h ⊢
  split at h
  · obtain ⟨e, ts, arr, a1, a2, a3, a4, a5⟩ := h
    exact ⟨e, ts, arr, a1, a2, a3, a4, (F.tr a5).sub (fun _ h => h) hN⟩
  · exact (h.fr F).le hN
theorem xFr.b14 {g g' : xG} {N : Nat} (h : xFr (oEq 14) N g g') : xFr o145 N g g' := h.sub (fun o h => Or.inl h) (Nat.le_refl _)
theorem xDr.fr {g g' : xG} {O : Nat → Prop} {N D : Nat} {eff : Option Nat} {of sc rk f l : Int32} {tl arr : Nat} {ts : List Nat} (h : xDr g D eff of sc rk f l tl arr ts) (F : xFr O N g g') (e : xc g' D = xc g D) (h5 : ¬ O 15) : xDr g' D eff of sc rk f l tl arr ts := by
  obtain ⟨a1, a2, a3, a4, a5, a6, a7, a8, a9, a10⟩ := h
  have ei : ∀ j, xi g' D j = xi g D j := xi_of e
  have er : ∀ j, xr g' D j = xr g D j := fun j => congrArg (fun z : xCell => z.2.2.2.2.1 j) e
  exact ⟨(congrArg (fun z : xCell => z.1) e).trans a1, (congrArg (fun z : xCell => z.2.1) e).trans a2, (er 0).trans a3, (ei 1).trans a4, (ei 2).trans a5, (ei 3).trans a6, (ei 4).trans a7, (ei 5).trans a8, (er 6).trans a9, a10.fr F h5⟩
theorem xDr.at_ {g : xG} {R D : Nat} {eff : Option Nat} {of sc rk f l v : Int32} {tl arr : Nat} {ts : List Nat} (h : xDr g D eff of sc rk f l tl arr ts) (hR : xtag g R = 15) (ho : xown g R = 14) : xDr (xsetI g R 2 v) D eff of sc rk f l tl arr ts := by
  have nRD : D ≠ R := by intro e9; have h9 := h.1; rw [e9, hR] at h9; exact absurd h9 (by decide)
  exact h.fr ((xFr.rf (O := oEq 14) (n := 0)).si (Or.inr ho)) (xc_setI nRD) (by unfold oEq; omega)

theorem lp_X18_tests {d R D tb n : Nat} {ch : Nat → Nat} {eff : Option Nat} {of sc rk f l : Int32} {tl : Nat} : ∀ (k p : Nat) (g : xG) (arr : Nat) (ts : List Nat) (T : List xT3), n - p < k → xRd g R D tb p n ch → xSC g → xDr g D eff of sc rk f l tl arr ts → xTq g ts T → 4 * T.length ≤ p → XW M_X18_tests (d + 9) 30 [(0, .ref R)] [] g (xRT g R D tb n ch eff of sc rk f l tl (1010 * (16 - T.length) + 30) (rMo n ch k p T)) := by
  intro k
  induction k with
  | zero => intro p g arr ts T h; omega
  | succ k ih =>
    intro p g arr ts T hk hR hSC hD hT hp
    have hR0 := hR
    obtain ⟨r1, r2, r3, r4, r5, hB, r7, r8⟩ := hR
    have rl := hR0.lt
    have rn := hR0.own
    have hlen : ts.length = T.length := hT.1
    have F1 : xFr (oEq 14) 0 g (xsetI g R 2 (nI (p + 1))) := xFr.rf.si (Or.inr r2)
    have y1 : xtag (xsetI g R 2 (nI (p + 1))) R = 15 := by rw [xtag_setI]; exact r1
    unfold rMo
    by_cases h : hIs n ch p 44 = true
    · rw [if_pos h]
      have hpn := (of_decide_eq_true h).1
      have hR1 := hR0.to (q := p + 1) (by omega)
      have hSC1 := hSC.fr F1 (by unfold oEq; omega)
      have hD1 := hD.at_ (v := nI (p + 1)) r1 r2
      have hT1 := hT.fr F1 (by unfold oEq; omega)
      cases hr : rTo n ch (p + 1) with
      | error e =>
        dsimp only
        refine xw_aload_n (pc := 30) dX18_tests_30 0 rfl ?_
        refine xw_bipush (v := nI 44) (pc := 31) dX18_tests_31 (by decide +kernel) ?_
        refine xw_callV (pc := 33) (xr_V (as := [_]) ok_X18_isHere rfl (by decide) q1904 q1906 qs33 (by first | (rw [r1]; rfl) | (rw [y1]; rfl)) (by first | (rw [r1]; rfl) | (rw [y1]; rfl)) dX18_tests_33 rfl rfl (Nat.le_of_ble_eq_true rfl)) ((show XM M_X18_isHere (d + 8) [.ref R, .int (nI 44)] g (xOne (some (.int (bI true))) g) from h ▸ SP_X18_isHere (d := d + 2) hR0 (by decide))) ?_
        refine xw_if_eq (pc := 36) 56 dX18_tests_36 rfl (fun hb => absurd hb (by decide)) (fun _ => ?_)
        refine xw_aload_n (pc := 39) dX18_tests_39 0 rfl ?_
        refine xw_dup (pc := 40) dX18_tests_40 rfl ?_
        refine xw_getNat (k := p) (pc := 41) fd_X18_22 dX18_tests_41 (by first | assumption | (simp [-List.getD_eq_getElem?_getD, xE_setI, xsz_setI, xsl_setI, xtag_setI, xown_setI, xlen_setI, xE_setR, xsz_setR, xsl_setR, xtag_setR, xown_setR, xlen_setR, xE_setW, xsz_setW, xsl_setW, xtag_setW, xown_setW, xlen_setW, xi_setR, xi_setW, xr_setI, xr_setW, xww_setI, xww_setR, xi_setI, xr_setR, xww_setW, xE_new, xsz_new, xsl_new, r1, r5, rn, xsub]; done) | (simp [-List.getD_eq_getElem?_getD, xE_setI, xsz_setI, xsl_setI, xtag_setI, xown_setI, xlen_setI, xE_setR, xsz_setR, xsl_setR, xtag_setR, xown_setR, xlen_setR, xE_setW, xsz_setW, xsl_setW, xtag_setW, xown_setW, xlen_setW, xi_setR, xi_setW, xr_setI, xr_setW, xww_setI, xww_setR, xi_setI, xr_setR, xww_setW, xE_new, xsz_new, xsl_new, r1, r5, rn] <;> rfl)) (by simp [-List.getD_eq_getElem?_getD, xE_setI, xsz_setI, xsl_setI, xtag_setI, xown_setI, xlen_setI, xE_setR, xsz_setR, xsl_setR, xtag_setR, xown_setR, xlen_setR, xE_setW, xsz_setW, xsl_setW, xtag_setW, xown_setW, xlen_setW, xi_setR, xi_setW, xr_setI, xr_setW, xww_setI, xww_setR, xi_setI, xr_setR, xww_setW, xE_new, xsz_new, xsl_new, r1, r5, rn]) ?_
        refine xw_iconst (v := nI 1) (pc := 44) dX18_tests_44 rfl ?_
        refine xn_iadd (pc := 45) dX18_tests_45 ?_
        refine xw_putI (pc := 46) fd_X18_22 (xfin_of (by decide) (by decide +kernel)) dX18_tests_46 (by first | assumption | (simp [-List.getD_eq_getElem?_getD, xE_setI, xsz_setI, xsl_setI, xtag_setI, xown_setI, xlen_setI, xE_setR, xsz_setR, xsl_setR, xtag_setR, xown_setR, xlen_setR, xE_setW, xsz_setW, xsl_setW, xtag_setW, xown_setW, xlen_setW, xi_setR, xi_setW, xr_setI, xr_setW, xww_setI, xww_setR, xi_setI, xr_setR, xww_setW, xE_new, xsz_new, xsl_new, r1, r5, rn, xsub]; done) | (simp [-List.getD_eq_getElem?_getD, xE_setI, xsz_setI, xsl_setI, xtag_setI, xown_setI, xlen_setI, xE_setR, xsz_setR, xsl_setR, xtag_setR, xown_setR, xlen_setR, xE_setW, xsz_setW, xsl_setW, xtag_setW, xown_setW, xlen_setW, xi_setR, xi_setW, xr_setI, xr_setW, xww_setI, xww_setR, xi_setI, xr_setR, xww_setW, xE_new, xsz_new, xsl_new, r1, r5, rn] <;> rfl)) (by first | assumption | (simp [-List.getD_eq_getElem?_getD, xE_setI, xsz_setI, xsl_setI, xtag_setI, xown_setI, xlen_setI, xE_setR, xsz_setR, xsl_setR, xtag_setR, xown_setR, xlen_setR, xE_setW, xsz_setW, xsl_setW, xtag_setW, xown_setW, xlen_setW, xi_setR, xi_setW, xr_setI, xr_setW, xww_setI, xww_setR, xi_setI, xr_setR, xww_setW, xE_new, xsz_new, xsl_new, r1, r5, rn]; done) | (simp [-List.getD_eq_getElem?_getD, xE_setI, xsz_setI, xsl_setI, xtag_setI, xown_setI, xlen_setI, xE_setR, xsz_setR, xsl_setR, xtag_setR, xown_setR, xlen_setR, xE_setW, xsz_setW, xsl_setW, xtag_setW, xown_setW, xlen_setW, xi_setR, xi_setW, xr_setI, xr_setW, xww_setI, xww_setR, xi_setI, xr_setR, xww_setW, xE_new, xsz_new, xsl_new, r1, r5, rn]; assumption)) ?_
        refine xw_aload_n (pc := 49) dX18_tests_49 0 rfl ?_
        refine xw_callY (pc := 50) (xr_V (as := []) ok_X18_test rfl (by decide) q2017 q2019 qs41 (by first | (rw [r1]; rfl) | (rw [y1]; rfl)) (by first | (rw [r1]; rfl) | (rw [y1]; rfl)) dX18_tests_50 rfl rfl (Nat.le_of_ble_eq_true rfl)) (SP_X18_test_E hR1 hSC1 hD1 hT1 hr) xWro_up rfl ?_
        exact fun _ _ h9 => ((h9.fr F1).sub (fun _ h => Or.inl h) (by omega))
      | ok t =>
        dsimp only
        have hp4 := rTo_lt hr
        refine xw_aload_n (pc := 30) dX18_tests_30 0 rfl ?_
        refine xw_bipush (v := nI 44) (pc := 31) dX18_tests_31 (by decide +kernel) ?_
        refine xw_callV (pc := 33) (xr_V (as := [_]) ok_X18_isHere rfl (by decide) q1904 q1906 qs33 (by first | (rw [r1]; rfl) | (rw [y1]; rfl)) (by first | (rw [r1]; rfl) | (rw [y1]; rfl)) dX18_tests_33 rfl rfl (Nat.le_of_ble_eq_true rfl)) ((show XM M_X18_isHere (d + 8) [.ref R, .int (nI 44)] g (xOne (some (.int (bI true))) g) from h ▸ SP_X18_isHere (d := d + 2) hR0 (by decide))) ?_
        refine xw_if_eq (pc := 36) 56 dX18_tests_36 rfl (fun hb => absurd hb (by decide)) (fun _ => ?_)
        refine xw_aload_n (pc := 39) dX18_tests_39 0 rfl ?_
        refine xw_dup (pc := 40) dX18_tests_40 rfl ?_
        refine xw_getNat (k := p) (pc := 41) fd_X18_22 dX18_tests_41 (by first | assumption | (simp [-List.getD_eq_getElem?_getD, xE_setI, xsz_setI, xsl_setI, xtag_setI, xown_setI, xlen_setI, xE_setR, xsz_setR, xsl_setR, xtag_setR, xown_setR, xlen_setR, xE_setW, xsz_setW, xsl_setW, xtag_setW, xown_setW, xlen_setW, xi_setR, xi_setW, xr_setI, xr_setW, xww_setI, xww_setR, xi_setI, xr_setR, xww_setW, xE_new, xsz_new, xsl_new, r1, r5, rn, xsub]; done) | (simp [-List.getD_eq_getElem?_getD, xE_setI, xsz_setI, xsl_setI, xtag_setI, xown_setI, xlen_setI, xE_setR, xsz_setR, xsl_setR, xtag_setR, xown_setR, xlen_setR, xE_setW, xsz_setW, xsl_setW, xtag_setW, xown_setW, xlen_setW, xi_setR, xi_setW, xr_setI, xr_setW, xww_setI, xww_setR, xi_setI, xr_setR, xww_setW, xE_new, xsz_new, xsl_new, r1, r5, rn] <;> rfl)) (by simp [-List.getD_eq_getElem?_getD, xE_setI, xsz_setI, xsl_setI, xtag_setI, xown_setI, xlen_setI, xE_setR, xsz_setR, xsl_setR, xtag_setR, xown_setR, xlen_setR, xE_setW, xsz_setW, xsl_setW, xtag_setW, xown_setW, xlen_setW, xi_setR, xi_setW, xr_setI, xr_setW, xww_setI, xww_setR, xi_setI, xr_setR, xww_setW, xE_new, xsz_new, xsl_new, r1, r5, rn]) ?_
        refine xw_iconst (v := nI 1) (pc := 44) dX18_tests_44 rfl ?_
        refine xn_iadd (pc := 45) dX18_tests_45 ?_
        refine xw_putI (pc := 46) fd_X18_22 (xfin_of (by decide) (by decide +kernel)) dX18_tests_46 (by first | assumption | (simp [-List.getD_eq_getElem?_getD, xE_setI, xsz_setI, xsl_setI, xtag_setI, xown_setI, xlen_setI, xE_setR, xsz_setR, xsl_setR, xtag_setR, xown_setR, xlen_setR, xE_setW, xsz_setW, xsl_setW, xtag_setW, xown_setW, xlen_setW, xi_setR, xi_setW, xr_setI, xr_setW, xww_setI, xww_setR, xi_setI, xr_setR, xww_setW, xE_new, xsz_new, xsl_new, r1, r5, rn, xsub]; done) | (simp [-List.getD_eq_getElem?_getD, xE_setI, xsz_setI, xsl_setI, xtag_setI, xown_setI, xlen_setI, xE_setR, xsz_setR, xsl_setR, xtag_setR, xown_setR, xlen_setR, xE_setW, xsz_setW, xsl_setW, xtag_setW, xown_setW, xlen_setW, xi_setR, xi_setW, xr_setI, xr_setW, xww_setI, xww_setR, xi_setI, xr_setR, xww_setW, xE_new, xsz_new, xsl_new, r1, r5, rn] <;> rfl)) (by first | assumption | (simp [-List.getD_eq_getElem?_getD, xE_setI, xsz_setI, xsl_setI, xtag_setI, xown_setI, xlen_setI, xE_setR, xsz_setR, xsl_setR, xtag_setR, xown_setR, xlen_setR, xE_setW, xsz_setW, xsl_setW, xtag_setW, xown_setW, xlen_setW, xi_setR, xi_setW, xr_setI, xr_setW, xww_setI, xww_setR, xi_setI, xr_setR, xww_setW, xE_new, xsz_new, xsl_new, r1, r5, rn]; done) | (simp [-List.getD_eq_getElem?_getD, xE_setI, xsz_setI, xsl_setI, xtag_setI, xown_setI, xlen_setI, xE_setR, xsz_setR, xsl_setR, xtag_setR, xown_setR, xlen_setR, xE_setW, xsz_setW, xsl_setW, xtag_setW, xown_setW, xlen_setW, xi_setR, xi_setW, xr_setI, xr_setW, xww_setI, xww_setR, xi_setI, xr_setR, xww_setW, xE_new, xsz_new, xsl_new, r1, r5, rn]; assumption)) ?_
        refine xw_aload_n (pc := 49) dX18_tests_49 0 rfl ?_
        refine xw_callH (pc := 50) (xr_V (as := []) ok_X18_test rfl (by decide) q2017 q2019 qs41 (by first | (rw [r1]; rfl) | (rw [y1]; rfl)) (by first | (rw [r1]; rfl) | (rw [y1]; rfl)) dX18_tests_50 rfl rfl (Nat.le_of_ble_eq_true rfl)) (SP_X18_test_O hR1 hSC1 hD1 hT1 (by omega) hr) ?_
        intro g50 hc50 hm50
        obtain ⟨b9, arr9, d1, d2, d3, d4⟩ := hc50
        refine xw_goto (pc := 53) 30 dX18_tests_53 rfl ?_
        have hl9 : (T ++ [t]).length = T.length + 1 := by simp
        refine (ih (p + 4) g50 arr9 _ (T ++ [t]) (by omega) d2 (hSC1.fr d4 (by unfold o145; omega)) d1 d3 (by omega)).mono (fun rs g' h9 _ => ?_)
        exact h9.fr (F1.b14.tr d4) (by omega)
    · rw [if_neg h]
      replace h := Bool.eq_false_iff.mpr h
      by_cases h2 : hIs n ch p 41 = true
      · rw [if_pos h2]
        refine xw_aload_n (pc := 30) dX18_tests_30 0 rfl ?_
        refine xw_bipush (v := nI 44) (pc := 31) dX18_tests_31 (by decide +kernel) ?_
        refine xw_callV (pc := 33) (xr_V (as := [_]) ok_X18_isHere rfl (by decide) q1904 q1906 qs33 (by first | (rw [r1]; rfl) | (rw [y1]; rfl)) (by first | (rw [r1]; rfl) | (rw [y1]; rfl)) dX18_tests_33 rfl rfl (Nat.le_of_ble_eq_true rfl)) ((show XM M_X18_isHere (d + 8) [.ref R, .int (nI 44)] g (xOne (some (.int (bI false))) g) from h ▸ SP_X18_isHere (d := d + 2) hR0 (by decide))) ?_
        refine xw_if_eq (pc := 36) 56 dX18_tests_36 rfl (fun _ => ?_) (fun hb => absurd hb (by decide))
        refine xw_aload_n (pc := 56) dX18_tests_56 0 rfl ?_
        refine xw_bipush (v := nI 41) (pc := 57) dX18_tests_57 (by decide +kernel) ?_
        refine xw_callU (pc := 59) (xr_V (as := [_]) ok_X18_takes rfl (by decide) q1996 q1998 qs39 (by first | (rw [r1]; rfl) | (rw [y1]; rfl)) (by first | (rw [r1]; rfl) | (rw [y1]; rfl)) dX18_tests_59 rfl rfl (Nat.le_of_ble_eq_true rfl)) (SP_X18_takes hR0 (by decide) h2) ?_
        refine xw_vret (pc := 62) dX18_tests_62 rfl ?_
        exact ⟨rfl, ts, arr, hD.at_ r1 r2, hR0.to (by have := (of_decide_eq_true h2).1; omega), hT.fr F1 (by unfold oEq; omega), by omega, F1.b14.sub (fun _ h => h) (by omega)⟩
      · rw [if_neg h2]
        replace h2 := Bool.eq_false_iff.mpr h2
        refine xw_aload_n (pc := 30) dX18_tests_30 0 rfl ?_
        refine xw_bipush (v := nI 44) (pc := 31) dX18_tests_31 (by decide +kernel) ?_
        refine xw_callV (pc := 33) (xr_V (as := [_]) ok_X18_isHere rfl (by decide) q1904 q1906 qs33 (by first | (rw [r1]; rfl) | (rw [y1]; rfl)) (by first | (rw [r1]; rfl) | (rw [y1]; rfl)) dX18_tests_33 rfl rfl (Nat.le_of_ble_eq_true rfl)) ((show XM M_X18_isHere (d + 8) [.ref R, .int (nI 44)] g (xOne (some (.int (bI false))) g) from h ▸ SP_X18_isHere (d := d + 2) hR0 (by decide))) ?_
        refine xw_if_eq (pc := 36) 56 dX18_tests_36 rfl (fun _ => ?_) (fun hb => absurd hb (by decide))
        refine xw_aload_n (pc := 56) dX18_tests_56 0 rfl ?_
        refine xw_bipush (v := nI 41) (pc := 57) dX18_tests_57 (by decide +kernel) ?_
        refine xw_callX (pc := 59) (xr_V (as := [_]) ok_X18_takes rfl (by decide) q1996 q1998 qs39 (by first | (rw [r1]; rfl) | (rw [y1]; rfl)) (by first | (rw [r1]; rfl) | (rw [y1]; rfl)) dX18_tests_59 rfl rfl (Nat.le_of_ble_eq_true rfl)) (SP_X18_takesF hR0 (by decide) h2) ?_
        refine xx_out0 rfl (by rw [xWr_tag]; decide) (by rw [xWr_tag]; decide) (by rw [xWr_own]; decide) ?_
        exact ⟨xsz _, rfl, xWr_tag, xWr_own, (xFr.rf (O := o145) (n := 0) (g := g)).le, xWr_at, (xWr_fr ((xFr.rf (O := o145) (n := 0) (g := g)))).sub (fun _ h => h) (by omega)⟩
theorem SP_X18_tests_0 {d : Nat} {g : xG} {R D tb p n : Nat} {ch : Nat → Nat} (hR : xRd g R D tb p n ch) (hSC : xSC g) {eff : Option Nat} {of sc rk f l : Int32} {tl arr : Nat} (hD : xDr g D eff of sc rk f l tl arr []) (h : hIs n ch p 40 = false) : XM M_X18_tests (d + 9) [.ref R] g (xRT g R D tb n ch eff of sc rk f l tl (17000) (rTs n ch p)) := by
  have hR0 := hR
  obtain ⟨r1, r2, r3, r4, r5, hB, r7, r8⟩ := hR
  have rl := hR0.lt
  have rn := hR0.own
  have hT : xTq g [] [] := ⟨rfl, fun j hj => absurd hj (Nat.not_lt_zero _)⟩
  have F1 : xFr (oEq 14) 0 g (xsetI g R 2 (nI (p + 1))) := xFr.rf.si (Or.inr r2)
  have y1 : xtag (xsetI g R 2 (nI (p + 1))) R = 15 := by rw [xtag_setI]; exact r1
  have y5 : xi (xsetI g R 2 (nI (p + 1))) R 2 = nI (p + 1) := xi_setIS (by rw [r1]; decide)
  unfold rTs
  rw [if_neg (Bool.eq_false_iff.mp h)]
  refine xm_of (by decide +kernel) (Nat.le_of_ble_eq_true rfl) ?_
  show XW _ _ 0 [(0, _)] [] _ _
  refine xw_aload_n (pc := 0) dX18_tests_0 0 rfl ?_
  refine xw_bipush (v := nI 40) (pc := 1) dX18_tests_1 (by decide +kernel) ?_
  refine xw_callX (pc := 3) (xr_V (as := [_]) ok_X18_takes rfl (by decide) q1996 q1998 qs39 (by first | (rw [r1]; rfl) | (rw [y1]; rfl)) (by first | (rw [r1]; rfl) | (rw [y1]; rfl)) dX18_tests_3 rfl rfl (Nat.le_of_ble_eq_true rfl)) (SP_X18_takesF hR0 (by decide) h) ?_
  refine xx_out0 rfl (by rw [xWr_tag]; decide) (by rw [xWr_tag]; decide) (by rw [xWr_own]; decide) ?_
  exact ⟨xsz _, rfl, xWr_tag, xWr_own, (xFr.rf (O := o145) (n := 0) (g := g)).le, xWr_at, (xWr_fr ((xFr.rf (O := o145) (n := 0) (g := g)))).sub (fun _ h => h) (by omega)⟩

theorem SP_X18_tests_1 {d : Nat} {g : xG} {R D tb p n : Nat} {ch : Nat → Nat} (hR : xRd g R D tb p n ch) (hSC : xSC g) {eff : Option Nat} {of sc rk f l : Int32} {tl arr : Nat} (hD : xDr g D eff of sc rk f l tl arr []) (h : hIs n ch p 40 = true) (h2 : hIs n ch (p + 1) 41 = true) : XM M_X18_tests (d + 9) [.ref R] g (xRT g R D tb n ch eff of sc rk f l tl (17000) (rTs n ch p)) := by
  have hR0 := hR
  obtain ⟨r1, r2, r3, r4, r5, hB, r7, r8⟩ := hR
  have rl := hR0.lt
  have rn := hR0.own
  have hT : xTq g [] [] := ⟨rfl, fun j hj => absurd hj (Nat.not_lt_zero _)⟩
  have F1 : xFr (oEq 14) 0 g (xsetI g R 2 (nI (p + 1))) := xFr.rf.si (Or.inr r2)
  have y1 : xtag (xsetI g R 2 (nI (p + 1))) R = 15 := by rw [xtag_setI]; exact r1
  have y5 : xi (xsetI g R 2 (nI (p + 1))) R 2 = nI (p + 1) := xi_setIS (by rw [r1]; decide)
  have hpn := (of_decide_eq_true h).1
  have hR1 := hR0.to (q := p + 1) (by omega)
  have hSC1 := hSC.fr F1 (by unfold oEq; omega)
  have hD1 := hD.at_ (v := nI (p + 1)) r1 r2
  have hT1 := hT.fr F1 (by unfold oEq; omega)
  unfold rTs
  rw [if_pos h]
  rw [if_pos h2]
  refine xm_of (by decide +kernel) (Nat.le_of_ble_eq_true rfl) ?_
  show XW _ _ 0 [(0, _)] [] _ _
  refine xw_aload_n (pc := 0) dX18_tests_0 0 rfl ?_
  refine xw_bipush (v := nI 40) (pc := 1) dX18_tests_1 (by decide +kernel) ?_
  refine xw_callU (pc := 3) (xr_V (as := [_]) ok_X18_takes rfl (by decide) q1996 q1998 qs39 (by first | (rw [r1]; rfl) | (rw [y1]; rfl)) (by first | (rw [r1]; rfl) | (rw [y1]; rfl)) dX18_tests_3 rfl rfl (Nat.le_of_ble_eq_true rfl)) (SP_X18_takes hR0 (by decide) h) ?_
  refine xw_aload_n (pc := 6) dX18_tests_6 0 rfl ?_
  refine xw_bipush (v := nI 41) (pc := 7) dX18_tests_7 (by decide +kernel) ?_
  refine xw_callV (pc := 9) (xr_V (as := [_]) ok_X18_isHere rfl (by decide) q1904 q1906 qs33 (by first | (rw [r1]; rfl) | (rw [y1]; rfl)) (by first | (rw [r1]; rfl) | (rw [y1]; rfl)) dX18_tests_9 rfl rfl (Nat.le_of_ble_eq_true rfl)) ((show XM M_X18_isHere (d + 8) [.ref R, .int (nI 41)] (xsetI g R 2 (nI (p + 1))) (xOne (some (.int (bI true))) (xsetI g R 2 (nI (p + 1)))) from h2 ▸ SP_X18_isHere (d := d + 2) hR1 (by decide))) ?_
  refine xw_if_eq (pc := 12) 26 dX18_tests_12 rfl (fun hb => absurd hb (by decide)) (fun _ => ?_)
  refine xw_aload_n (pc := 15) dX18_tests_15 0 rfl ?_
  refine xw_dup (pc := 16) dX18_tests_16 rfl ?_
  refine xw_getNat (k := (p + 1)) (pc := 17) fd_X18_22 dX18_tests_17 (by first | assumption | (simp [-List.getD_eq_getElem?_getD, xE_setI, xsz_setI, xsl_setI, xtag_setI, xown_setI, xlen_setI, xE_setR, xsz_setR, xsl_setR, xtag_setR, xown_setR, xlen_setR, xE_setW, xsz_setW, xsl_setW, xtag_setW, xown_setW, xlen_setW, xi_setR, xi_setW, xr_setI, xr_setW, xww_setI, xww_setR, xi_setI, xr_setR, xww_setW, xE_new, xsz_new, xsl_new, r1, r5, rn, y1, y5, xsub]; done) | (simp [-List.getD_eq_getElem?_getD, xE_setI, xsz_setI, xsl_setI, xtag_setI, xown_setI, xlen_setI, xE_setR, xsz_setR, xsl_setR, xtag_setR, xown_setR, xlen_setR, xE_setW, xsz_setW, xsl_setW, xtag_setW, xown_setW, xlen_setW, xi_setR, xi_setW, xr_setI, xr_setW, xww_setI, xww_setR, xi_setI, xr_setR, xww_setW, xE_new, xsz_new, xsl_new, r1, r5, rn, y1, y5] <;> rfl)) (by simp [-List.getD_eq_getElem?_getD, xE_setI, xsz_setI, xsl_setI, xtag_setI, xown_setI, xlen_setI, xE_setR, xsz_setR, xsl_setR, xtag_setR, xown_setR, xlen_setR, xE_setW, xsz_setW, xsl_setW, xtag_setW, xown_setW, xlen_setW, xi_setR, xi_setW, xr_setI, xr_setW, xww_setI, xww_setR, xi_setI, xr_setR, xww_setW, xE_new, xsz_new, xsl_new, r1, r5, rn, y1, y5]) ?_
  refine xw_iconst (v := nI 1) (pc := 20) dX18_tests_20 rfl ?_
  refine xn_iadd (pc := 21) dX18_tests_21 ?_
  refine xw_putI (pc := 22) fd_X18_22 (xfin_of (by decide) (by decide +kernel)) dX18_tests_22 (by first | assumption | (simp [-List.getD_eq_getElem?_getD, xE_setI, xsz_setI, xsl_setI, xtag_setI, xown_setI, xlen_setI, xE_setR, xsz_setR, xsl_setR, xtag_setR, xown_setR, xlen_setR, xE_setW, xsz_setW, xsl_setW, xtag_setW, xown_setW, xlen_setW, xi_setR, xi_setW, xr_setI, xr_setW, xww_setI, xww_setR, xi_setI, xr_setR, xww_setW, xE_new, xsz_new, xsl_new, r1, r5, rn, y1, y5, xsub]; done) | (simp [-List.getD_eq_getElem?_getD, xE_setI, xsz_setI, xsl_setI, xtag_setI, xown_setI, xlen_setI, xE_setR, xsz_setR, xsl_setR, xtag_setR, xown_setR, xlen_setR, xE_setW, xsz_setW, xsl_setW, xtag_setW, xown_setW, xlen_setW, xi_setR, xi_setW, xr_setI, xr_setW, xww_setI, xww_setR, xi_setI, xr_setR, xww_setW, xE_new, xsz_new, xsl_new, r1, r5, rn, y1, y5] <;> rfl)) (by first | assumption | (simp [-List.getD_eq_getElem?_getD, xE_setI, xsz_setI, xsl_setI, xtag_setI, xown_setI, xlen_setI, xE_setR, xsz_setR, xsl_setR, xtag_setR, xown_setR, xlen_setR, xE_setW, xsz_setW, xsl_setW, xtag_setW, xown_setW, xlen_setW, xi_setR, xi_setW, xr_setI, xr_setW, xww_setI, xww_setR, xi_setI, xr_setR, xww_setW, xE_new, xsz_new, xsl_new, r1, r5, rn, y1, y5]; done) | (simp [-List.getD_eq_getElem?_getD, xE_setI, xsz_setI, xsl_setI, xtag_setI, xown_setI, xlen_setI, xE_setR, xsz_setR, xsl_setR, xtag_setR, xown_setR, xlen_setR, xE_setW, xsz_setW, xsl_setW, xtag_setW, xown_setW, xlen_setW, xi_setR, xi_setW, xr_setI, xr_setW, xww_setI, xww_setR, xi_setI, xr_setR, xww_setW, xE_new, xsz_new, xsl_new, r1, r5, rn, y1, y5]; assumption)) ?_
  refine xw_vret (pc := 25) dX18_tests_25 rfl ?_
  rw [xsetI_ov rl]
  exact ⟨rfl, [], arr, hD.at_ r1 r2, hR0.to (by have := (of_decide_eq_true h2).1; omega), hT.fr ((xFr.rf (O := oEq 14) (n := 0)).si (Or.inr r2)) (by unfold oEq; omega), by simp, ((xFr.rf (O := oEq 14) (n := 0)).si (Or.inr r2)).b14.sub (fun _ h => h) (by omega)⟩

theorem SP_X18_tests_2 {d : Nat} {g : xG} {e : Nat} {R D tb p n : Nat} {ch : Nat → Nat} (hR : xRd g R D tb p n ch) (hSC : xSC g) {eff : Option Nat} {of sc rk f l : Int32} {tl arr : Nat} (hD : xDr g D eff of sc rk f l tl arr []) (h : hIs n ch p 40 = true) (h2 : hIs n ch (p + 1) 41 = false) (hr : rTo n ch (p + 1) = .error e) : XM M_X18_tests (d + 9) [.ref R] g (xRT g R D tb n ch eff of sc rk f l tl (17000) (rTs n ch p)) := by
  have hR0 := hR
  obtain ⟨r1, r2, r3, r4, r5, hB, r7, r8⟩ := hR
  have rl := hR0.lt
  have rn := hR0.own
  have hT : xTq g [] [] := ⟨rfl, fun j hj => absurd hj (Nat.not_lt_zero _)⟩
  have F1 : xFr (oEq 14) 0 g (xsetI g R 2 (nI (p + 1))) := xFr.rf.si (Or.inr r2)
  have y1 : xtag (xsetI g R 2 (nI (p + 1))) R = 15 := by rw [xtag_setI]; exact r1
  have y5 : xi (xsetI g R 2 (nI (p + 1))) R 2 = nI (p + 1) := xi_setIS (by rw [r1]; decide)
  have hpn := (of_decide_eq_true h).1
  have hR1 := hR0.to (q := p + 1) (by omega)
  have hSC1 := hSC.fr F1 (by unfold oEq; omega)
  have hD1 := hD.at_ (v := nI (p + 1)) r1 r2
  have hT1 := hT.fr F1 (by unfold oEq; omega)
  unfold rTs
  rw [if_pos h]
  rw [if_neg (Bool.eq_false_iff.mp h2), hr]
  dsimp only
  refine xm_of (by decide +kernel) (Nat.le_of_ble_eq_true rfl) ?_
  show XW _ _ 0 [(0, _)] [] _ _
  refine xw_aload_n (pc := 0) dX18_tests_0 0 rfl ?_
  refine xw_bipush (v := nI 40) (pc := 1) dX18_tests_1 (by decide +kernel) ?_
  refine xw_callU (pc := 3) (xr_V (as := [_]) ok_X18_takes rfl (by decide) q1996 q1998 qs39 (by first | (rw [r1]; rfl) | (rw [y1]; rfl)) (by first | (rw [r1]; rfl) | (rw [y1]; rfl)) dX18_tests_3 rfl rfl (Nat.le_of_ble_eq_true rfl)) (SP_X18_takes hR0 (by decide) h) ?_
  refine xw_aload_n (pc := 6) dX18_tests_6 0 rfl ?_
  refine xw_bipush (v := nI 41) (pc := 7) dX18_tests_7 (by decide +kernel) ?_
  refine xw_callV (pc := 9) (xr_V (as := [_]) ok_X18_isHere rfl (by decide) q1904 q1906 qs33 (by first | (rw [r1]; rfl) | (rw [y1]; rfl)) (by first | (rw [r1]; rfl) | (rw [y1]; rfl)) dX18_tests_9 rfl rfl (Nat.le_of_ble_eq_true rfl)) ((show XM M_X18_isHere (d + 8) [.ref R, .int (nI 41)] (xsetI g R 2 (nI (p + 1))) (xOne (some (.int (bI false))) (xsetI g R 2 (nI (p + 1)))) from h2 ▸ SP_X18_isHere (d := d + 2) hR1 (by decide))) ?_
  refine xw_if_eq (pc := 12) 26 dX18_tests_12 rfl (fun _ => ?_) (fun hb => absurd hb (by decide))
  refine xw_aload_n (pc := 26) dX18_tests_26 0 rfl ?_
  refine xw_callY (pc := 27) (xr_V (as := []) ok_X18_test rfl (by decide) q2017 q2019 qs41 (by first | (rw [r1]; rfl) | (rw [y1]; rfl)) (by first | (rw [r1]; rfl) | (rw [y1]; rfl)) dX18_tests_27 rfl rfl (Nat.le_of_ble_eq_true rfl)) (SP_X18_test_E hR1 hSC1 hD1 hT1 hr) xWro_up rfl ?_
  exact fun _ _ h9 => ((h9.fr F1).sub (fun _ h => Or.inl h) (by omega))

theorem SP_X18_tests_3 {d : Nat} {g : xG} {t : xT3} {R D tb p n : Nat} {ch : Nat → Nat} (hR : xRd g R D tb p n ch) (hSC : xSC g) {eff : Option Nat} {of sc rk f l : Int32} {tl arr : Nat} (hD : xDr g D eff of sc rk f l tl arr []) (h : hIs n ch p 40 = true) (h2 : hIs n ch (p + 1) 41 = false) (hr : rTo n ch (p + 1) = .ok t) : XM M_X18_tests (d + 9) [.ref R] g (xRT g R D tb n ch eff of sc rk f l tl (17000) (rTs n ch p)) := by
  have hR0 := hR
  obtain ⟨r1, r2, r3, r4, r5, hB, r7, r8⟩ := hR
  have rl := hR0.lt
  have rn := hR0.own
  have hT : xTq g [] [] := ⟨rfl, fun j hj => absurd hj (Nat.not_lt_zero _)⟩
  have F1 : xFr (oEq 14) 0 g (xsetI g R 2 (nI (p + 1))) := xFr.rf.si (Or.inr r2)
  have y1 : xtag (xsetI g R 2 (nI (p + 1))) R = 15 := by rw [xtag_setI]; exact r1
  have y5 : xi (xsetI g R 2 (nI (p + 1))) R 2 = nI (p + 1) := xi_setIS (by rw [r1]; decide)
  have hpn := (of_decide_eq_true h).1
  have hR1 := hR0.to (q := p + 1) (by omega)
  have hSC1 := hSC.fr F1 (by unfold oEq; omega)
  have hD1 := hD.at_ (v := nI (p + 1)) r1 r2
  have hT1 := hT.fr F1 (by unfold oEq; omega)
  unfold rTs
  rw [if_pos h]
  rw [if_neg (Bool.eq_false_iff.mp h2), hr]
  dsimp only
  have hp4 := rTo_lt hr
  refine xm_of (by decide +kernel) (Nat.le_of_ble_eq_true rfl) ?_
  show XW _ _ 0 [(0, _)] [] _ _
  refine xw_aload_n (pc := 0) dX18_tests_0 0 rfl ?_
  refine xw_bipush (v := nI 40) (pc := 1) dX18_tests_1 (by decide +kernel) ?_
  refine xw_callU (pc := 3) (xr_V (as := [_]) ok_X18_takes rfl (by decide) q1996 q1998 qs39 (by first | (rw [r1]; rfl) | (rw [y1]; rfl)) (by first | (rw [r1]; rfl) | (rw [y1]; rfl)) dX18_tests_3 rfl rfl (Nat.le_of_ble_eq_true rfl)) (SP_X18_takes hR0 (by decide) h) ?_
  refine xw_aload_n (pc := 6) dX18_tests_6 0 rfl ?_
  refine xw_bipush (v := nI 41) (pc := 7) dX18_tests_7 (by decide +kernel) ?_
  refine xw_callV (pc := 9) (xr_V (as := [_]) ok_X18_isHere rfl (by decide) q1904 q1906 qs33 (by first | (rw [r1]; rfl) | (rw [y1]; rfl)) (by first | (rw [r1]; rfl) | (rw [y1]; rfl)) dX18_tests_9 rfl rfl (Nat.le_of_ble_eq_true rfl)) ((show XM M_X18_isHere (d + 8) [.ref R, .int (nI 41)] (xsetI g R 2 (nI (p + 1))) (xOne (some (.int (bI false))) (xsetI g R 2 (nI (p + 1)))) from h2 ▸ SP_X18_isHere (d := d + 2) hR1 (by decide))) ?_
  refine xw_if_eq (pc := 12) 26 dX18_tests_12 rfl (fun _ => ?_) (fun hb => absurd hb (by decide))
  refine xw_aload_n (pc := 26) dX18_tests_26 0 rfl ?_
  refine xw_callH (pc := 27) (xr_V (as := []) ok_X18_test rfl (by decide) q2017 q2019 qs41 (by first | (rw [r1]; rfl) | (rw [y1]; rfl)) (by first | (rw [r1]; rfl) | (rw [y1]; rfl)) dX18_tests_27 rfl rfl (Nat.le_of_ble_eq_true rfl)) (SP_X18_test_O hR1 hSC1 hD1 hT1 (by simp) hr) ?_
  intro g27 hc27 hm27
  obtain ⟨b9, arr9, d1, d2, d3, d4⟩ := hc27
  refine (lp_X18_tests (n + 1) (p + 4) g27 arr9 _ [t] (by omega) d2 (hSC1.fr d4 (by unfold o145; omega)) d1 d3 (by simp)).mono (fun rs g' h9 _ => ?_)
  exact h9.fr (F1.b14.tr d4) (by simp)

theorem SP_X18_tests {d : Nat} {g : xG} {R D tb p n : Nat} {ch : Nat → Nat} (hR : xRd g R D tb p n ch) (hSC : xSC g) {eff : Option Nat} {of sc rk f l : Int32} {tl arr : Nat} (hD : xDr g D eff of sc rk f l tl arr []) : XM M_X18_tests (d + 9) [.ref R] g (xRT g R D tb n ch eff of sc rk f l tl (17000) (rTs n ch p)) := by
  by_cases h : hIs n ch p 40 = true
  · by_cases h2 : hIs n ch (p + 1) 41 = true
    · exact SP_X18_tests_1 hR hSC hD h h2
    · cases hr : rTo n ch (p + 1) with
      | error e => exact SP_X18_tests_2 hR hSC hD h (Bool.eq_false_iff.mpr h2) hr
      | ok t => exact SP_X18_tests_3 hR hSC hD h (Bool.eq_false_iff.mpr h2) hr
  · exact SP_X18_tests_0 hR hSC hD (Bool.eq_false_iff.mpr h)
