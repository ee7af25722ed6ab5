/-! CLASS 4: rules: tests -/
set_option maxRecDepth 100000
/-- a test's feature, its digit -/
theorem xw_feature {M : xM} {d pc : Nat} {l : List (Nat × Value)} {rest : List Value} {g : xG} {Q : Option Value ⊕ Nat → xG → Prop} {idx b : Nat} (hb : 10 ≤ xtag g b) (hb2 : xtag g b ≤ 13) (hd : decode M.2.1 pc = .ok (.invokevirtual idx, 3)) (hl : Cond.methodLink M.1.cls idx ⟨"PolicyNotation$Test", "feature", "()I"⟩ ∈ lw_all) (hr : (rest.map fun v => v.category).sum ≤ 8) (k : XW M (d + 1) (pc + 3) l (.int (xi g b 0) :: rest) g Q) : XW M (d + 1) pc l (.ref b :: rest) g Q := by
  have h : xtag g b = 10 ∨ xtag g b = 11 ∨ xtag g b = 12 ∨ xtag g b = 13 := by omega
  rcases h with h | h | h | h
  · exact xw_callV (xr_U (x := ⟨"PolicyNotation$Test", "feature", "()I"⟩) (as := []) ok_X12_feature rfl (by decide) hl q802 (Or.inr ⟨_, _, _, q801, q807⟩) ⟨by decide, by decide, by decide +kernel⟩ q801 (by rw [h]; rfl) (by rw [h]; exact q803) hd rfl rfl hr) (SP_X12_feature (by rw [h]; rfl)) k
  · exact xw_callV (xr_U (x := ⟨"PolicyNotation$Test", "feature", "()I"⟩) (as := []) ok_X12_feature rfl (by decide) hl q802 (Or.inr ⟨_, _, _, q801, q807⟩) ⟨by decide, by decide, by decide +kernel⟩ q801 (by rw [h]; rfl) (by rw [h]; exact q805) hd rfl rfl hr) (SP_X12_feature (by rw [h]; rfl)) k
  · exact xw_callV (xr_U (x := ⟨"PolicyNotation$Test", "feature", "()I"⟩) (as := []) ok_X12_feature rfl (by decide) hl q802 (Or.inr ⟨_, _, _, q801, q807⟩) ⟨by decide, by decide, by decide +kernel⟩ q801 (by rw [h]; rfl) (by rw [h]; exact q804) hd rfl rfl hr) (SP_X12_feature (by rw [h]; rfl)) k
  · exact xw_callV (xr_U (x := ⟨"PolicyNotation$Test", "feature", "()I"⟩) (as := []) ok_X12_feature rfl (by decide) hl q802 (Or.inr ⟨_, _, _, q801, q807⟩) ⟨by decide, by decide, by decide +kernel⟩ q801 (by rw [h]; rfl) (by rw [h]; exact q806) hd rfl rfl hr) (SP_X12_feature (by rw [h]; rfl)) k
/-- the tests' objects of the rule r -/
def xTst (g : xG) (s : Nat → Int32) (r : Nat) (ts : List Nat) : Prop := ts.length = aN s (23 + 20 * r + 7) ∧ ∀ j, j < ts.length → 10 ≤ xtag g (ts.getD j 0) ∧ xtag g (ts.getD j 0) ≤ 13 ∧ xtag g (ts.getD j 0) - 10 = aN s (23 + 20 * r + (8 + 3 * j + 1)) ∧ xi g (ts.getD j 0) 0 = s (23 + 20 * r + (8 + 3 * j)) ∧ xi g (ts.getD j 0) 1 = s (23 + 20 * r + (8 + 3 * j + 2))
theorem xTst_fit {g : xG} {s : Nat → Int32} {r j : Nat} {ts : List Nat} (h : xTst g s r ts) (hj : j < ts.length) (v : Int32) : tfit g (ts.getD j 0) v = fulf v (aN s (23 + 20 * r + (8 + 3 * j + 1))) (s (23 + 20 * r + (8 + 3 * j + 2))) := by
  obtain ⟨h1, h2, h3, h4, h5⟩ := h.2 j hj
  unfold tfit
  rw [h3, h5]
theorem xTst_tag {g : xG} {s : Nat → Int32} {r j : Nat} {ts : List Nat} (h : xTst g s r ts) (hj : j < ts.length) : xsub 91 (xtag g (ts.getD j 0)) = true := by
  obtain ⟨h1, h2, -⟩ := h.2 j hj
  have h : xtag g (ts.getD j 0) = 10 ∨ xtag g (ts.getD j 0) = 11 ∨ xtag g (ts.getD j 0) = 12 ∨ xtag g (ts.getD j 0) = 13 := by omega
  rcases h with h | h | h | h <;> rw [h] <;> rfl
theorem lp_X7_fits {d : Nat} {g : xG} {s : Nat → Int32} {a r o tl arr F : Nat} {ts : List Nat} {feats : Int32} (ht : xtag g a = 6 ∨ xtag g a = 7) (htl : xr g a 6 = some tl) (hL : xAL g o tl arr ts) (hT : xTst g s r ts) (hF : xtag g F = 101) (hFl : xlen g F = 6) (hFv : ∀ f, f < 6 → xi g F f = dig feats f) (hWt : ∀ j, j < ts.length → isN s (23 + 20 * r + (8 + 3 * j)) 6) : ∀ (jj j : Nat), ts.length - j < jj → j ≤ ts.length → allK (tC s feats r) j = true → XW M_X7_fits (d + 3) 2 [(2, .int (nI j)), (0, .ref a), (1, .ref F)] [] g (xOne (some (.int (bI (allK (tC s feats r) ts.length)))) g) := by
  intro jj
  induction jj with
  | zero => intro j h; omega
  | succ jj ih =>
  intro j hj hk hal
  have htx : xsub 90 (xtag g a) = true := by rcases ht with h | h <;> rw [h] <;> rfl
  have htl8 := hL.1
  have hlt := hL.2.2.2.2.2.2.2.1
  have hle := hL.2.2.2.2.2.2.1
  refine xw_iload_n (pc := 2) dX7_fits_2 0 rfl ?_
  refine xw_aload_n (pc := 3) dX7_fits_3 1 rfl ?_
  refine xw_getS (b := tl) (pc := 4) fd_X7_20 dX7_fits_4 (by first | assumption | (simp [xE_setI, xsz_setI, xsl_setI, xtag_setI, xown_setI, xlen_setI, xE_setR, xsz_setR, xsl_setR, xtag_setR, xown_setR, xlen_setR, xE_setW, xsz_setW, xsl_setW, xtag_setW, xown_setW, xlen_setW, xi_setR, xi_setW, xr_setI, xr_setW, xww_setI, xww_setR, xi_setI, xr_setR, xww_setW, xE_new, xsz_new, xsl_new, htx, htl, hF, hFl, xsub]; done) | (simp [xE_setI, xsz_setI, xsl_setI, xtag_setI, xown_setI, xlen_setI, xE_setR, xsz_setR, xsl_setR, xtag_setR, xown_setR, xlen_setR, xE_setW, xsz_setW, xsl_setW, xtag_setW, xown_setW, xlen_setW, xi_setR, xi_setW, xr_setI, xr_setW, xww_setI, xww_setR, xi_setI, xr_setR, xww_setW, xE_new, xsz_new, xsl_new, htx, htl, hF, hFl] <;> rfl)) (by simp [xE_setI, xsz_setI, xsl_setI, xtag_setI, xown_setI, xlen_setI, xE_setR, xsz_setR, xsl_setR, xtag_setR, xown_setR, xlen_setR, xE_setW, xsz_setW, xsl_setW, xtag_setW, xown_setW, xlen_setW, xi_setR, xi_setW, xr_setI, xr_setW, xww_setI, xww_setR, xi_setI, xr_setR, xww_setW, xE_new, xsz_new, xsl_new, htx, htl, hF, hFl]) ?_
  refine xw_callV (pc := 7) (xr_V (as := []) ok_J2_size rfl (by decide) q797 q702 q703 (by rw [htl8]; rfl) (by rw [htl8]; rfl) dX7_fits_7 rfl rfl (Nat.le_of_ble_eq_true rfl)) (SP_J2_size hL) ?_
  refine xw_icmp_ge (pc := 10) 46 dX7_fits_10 rfl (fun hb10 => ?_) (fun hb10 => ?_)
  · replace hb10 : ts.length ≤ j := (nI_leI (a := ts.length) (b := j) (by omega) (by omega)).mp hb10
    refine xw_iconst (v := nI 1) (pc := 46) dX7_fits_46 rfl ?_
    refine xw_iret (pc := 47) .boolean dX7_fits_47 rfl ?_ 
    obtain rfl : j = ts.length := by omega
    rw [hal]
    exact ⟨rfl, rfl⟩
  · replace hb10 : ¬ (ts.length ≤ j) := mt (nI_leI (a := ts.length) (b := j) (by omega) (by omega)).mpr hb10
    refine xw_aload_n (pc := 13) dX7_fits_13 1 rfl ?_
    refine xw_getS (b := tl) (pc := 14) fd_X7_20 dX7_fits_14 (by first | assumption | (simp [xE_setI, xsz_setI, xsl_setI, xtag_setI, xown_setI, xlen_setI, xE_setR, xsz_setR, xsl_setR, xtag_setR, xown_setR, xlen_setR, xE_setW, xsz_setW, xsl_setW, xtag_setW, xown_setW, xlen_setW, xi_setR, xi_setW, xr_setI, xr_setW, xww_setI, xww_setR, xi_setI, xr_setR, xww_setW, xE_new, xsz_new, xsl_new, htx, htl, hF, hFl, xsub]; done) | (simp [xE_setI, xsz_setI, xsl_setI, xtag_setI, xown_setI, xlen_setI, xE_setR, xsz_setR, xsl_setR, xtag_setR, xown_setR, xlen_setR, xE_setW, xsz_setW, xsl_setW, xtag_setW, xown_setW, xlen_setW, xi_setR, xi_setW, xr_setI, xr_setW, xww_setI, xww_setR, xi_setI, xr_setR, xww_setW, xE_new, xsz_new, xsl_new, htx, htl, hF, hFl] <;> rfl)) (by simp [xE_setI, xsz_setI, xsl_setI, xtag_setI, xown_setI, xlen_setI, xE_setR, xsz_setR, xsl_setR, xtag_setR, xown_setR, xlen_setR, xE_setW, xsz_setW, xsl_setW, xtag_setW, xown_setW, xlen_setW, xi_setR, xi_setW, xr_setI, xr_setW, xww_setI, xww_setR, xi_setI, xr_setR, xww_setW, xE_new, xsz_new, xsl_new, htx, htl, hF, hFl]) ?_
    refine xw_iload_n (pc := 17) dX7_fits_17 0 rfl ?_
    refine xw_callV (pc := 18) (xr_V (as := [_]) ok_J2_get rfl (by decide) q798 q706 q707 (by rw [htl8]; rfl) (by rw [htl8]; rfl) dX7_fits_18 rfl rfl (Nat.le_of_ble_eq_true rfl)) (SP_J2_get hL j (by omega)) ?_
    have hj9 : j < ts.length := by omega
    have hq := hT.2 j hj9
    have hw := hWt j hj9
    refine xw_chkT (pc := 21) dX7_fits_21 q799 (by have := hT.2 j (by omega); omega) (by have := hT.2 j (by omega); omega) ?_
    refine xw_astore_n (l' := [(3, _), (2, _), (0, _), (1, _)]) (pc := 24) dX7_fits_24 rfl (by decide) rfl ?_
    refine xw_aload_n (pc := 25) dX7_fits_25 0 rfl ?_
    refine xw_aload_n (pc := 26) dX7_fits_26 3 rfl ?_
    refine xw_aload_n (pc := 27) dX7_fits_27 0 rfl ?_
    refine xw_feature (pc := 28) hq.1 hq.2.1 dX7_fits_28 q800 (Nat.le_of_ble_eq_true rfl) ?_
    rw [hq.2.2.2.1, hw.1]
    refine xw_iald (k := aN s (23 + 20 * r + (8 + 3 * j))) (pc := 31) dX7_fits_31 (by simp [xE_setI, xsz_setI, xsl_setI, xtag_setI, xown_setI, xlen_setI, xE_setR, xsz_setR, xsl_setR, xtag_setR, xown_setR, xlen_setR, xE_setW, xsz_setW, xsl_setW, xtag_setW, xown_setW, xlen_setW, xi_setR, xi_setW, xr_setI, xr_setW, xww_setI, xww_setR, xi_setI, xr_setR, xww_setW, xE_new, xsz_new, xsl_new, htx, htl, hF, hFl]) rfl (by rw [hFl]; exact hw.2) ?_
    rw [hFv _ hw.2]
    refine xw_fits (pc := 32) hq.1 hq.2.1 dX7_fits_32 q808 (Nat.le_of_ble_eq_true rfl) ?_
    rw [xTst_fit hT hj9, show fulf (dig feats (aN s (23 + 20 * r + (8 + 3 * j)))) (aN s (23 + 20 * r + (8 + 3 * j + 1))) (s (23 + 20 * r + (8 + 3 * j + 2))) = tC s feats r j from rfl]
    refine xw_if_ne (pc := 35) 40 dX7_fits_35 rfl (fun hb35 => ?_) (fun hb35 => ?_)
    · replace hb35 := bI_n0.mp hb35
      refine xw_iinc (v := nI (j + 1)) (l' := [(2, _), (3, _), (0, _), (1, _)]) (pc := 40) dX7_fits_40 1 rfl (nI_add _ 1) (by decide) rfl ?_
      refine xw_goto (pc := 43) 2 dX7_fits_43 rfl ?_
      refine xw_pick (pc := 2) (l' := [(2, _), (0, _), (1, _)]) [0, 2, 3] rfl ?_
      exact ih (j + 1) (by omega) (by omega) (by rw [allK, hal, hb35]; rfl)
    · replace hb35 := bI_0.mp hb35
      refine xw_iconst (v := nI 0) (pc := 38) dX7_fits_38 rfl ?_
      refine xw_iret (pc := 39) .boolean dX7_fits_39 rfl ?_ 
      rw [allK_f (a := j + 1) (by omega) (show allK (tC s feats r) (j + 1) = false by rw [allK, hb35, Bool.and_false])]
      exact ⟨rfl, rfl⟩
theorem SP_X7_fits {d : Nat} {g : xG} {s : Nat → Int32} {a r o tl arr F : Nat} {ts : List Nat} {feats : Int32} (ht : xtag g a = 6 ∨ xtag g a = 7) (htl : xr g a 6 = some tl) (hL : xAL g o tl arr ts) (hT : xTst g s r ts) (hF : xtag g F = 101) (hFl : xlen g F = 6) (hFv : ∀ f, f < 6 → xi g F f = dig feats f) (hWt : ∀ j, j < ts.length → isN s (23 + 20 * r + (8 + 3 * j)) 6) : XM M_X7_fits (d + 3) [.ref a, .ref F] g (xOne (some (.int (bI (allK (tC s feats r) ts.length)))) g) := by
  refine xm_of (by decide +kernel) (Nat.le_of_ble_eq_true rfl) ?_
  show XW _ _ 0 [(0, _), (1, _)] [] _ _
  refine xw_iconst (v := nI 0) (pc := 0) dX7_fits_0 rfl ?_
  refine xw_istore_n (l' := [(2, _), (0, _), (1, _)]) (pc := 1) dX7_fits_1 rfl (by decide) rfl ?_
  exact lp_X7_fits ht htl hL hT hF hFl hFv hWt (ts.length + 1) 0 (by omega) (Nat.zero_le _) rfl
