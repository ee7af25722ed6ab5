/-! LAW 15: the law's loop -/
set_option maxRecDepth 100000
theorem len6 {i len : Nat} (hl : len ≤ 144) (hi : i ≤ 200) : (nI len - nI 6 < nI i) ↔ ¬ (i + 6 ≤ len) := by
  have e : (nI len - nI 6).toInt = (len : Int) - 6 := by
    by_cases h : 6 ≤ len
    · rw [nI_sub h, nI_toInt (by omega)]
      omega
    · have h6 : len = 0 ∨ len = 1 ∨ len = 2 ∨ len = 3 ∨ len = 4 ∨ len = 5 := by omega
      rcases h6 with rfl | rfl | rfl | rfl | rfl | rfl <;> decide
  rw [Int32.lt_iff_toInt_lt, e, nI_toInt (by omega)]
  omega
theorem xt_n44 {v : Int32} : ∀ (n : Nat), v = nI n → n ≤ 43 → ¬ v = nI 0 → ¬ v = nI 1 → ¬ v = nI 2 → ¬ v = nI 3 → ¬ v = nI 4 → ¬ v = nI 5 → ¬ v = nI 6 → ¬ v = nI 7 → ¬ v = nI 8 → ¬ v = nI 9 → ¬ v = nI 10 → ¬ v = nI 11 → ¬ v = nI 12 → ¬ v = nI 13 → ¬ v = nI 14 → ¬ v = nI 15 → ¬ v = nI 16 → ¬ v = nI 17 → ¬ v = nI 18 → ¬ v = nI 19 → ¬ v = nI 20 → ¬ v = nI 21 → ¬ v = nI 22 → ¬ v = nI 23 → ¬ v = nI 24 → ¬ v = nI 25 → ¬ v = nI 26 → ¬ v = nI 27 → ¬ v = nI 28 → ¬ v = nI 29 → ¬ v = nI 30 → ¬ v = nI 31 → ¬ v = nI 32 → ¬ v = nI 33 → ¬ v = nI 34 → ¬ v = nI 35 → ¬ v = nI 36 → ¬ v = nI 37 → ¬ v = nI 38 → ¬ v = nI 39 → ¬ v = nI 40 → ¬ v = nI 41 → ¬ v = nI 42 → ¬ v = nI 43 → False
  | 0, e, _ => fun h _ _ _ _ _ _ _ _ _ _ _ _ _ _ _ _ _ _ _ _ _ _ _ _ _ _ _ _ _ _ _ _ _ _ _ _ _ _ _ _ _ _ _ => h e
  | 1, e, _ => fun _ h _ _ _ _ _ _ _ _ _ _ _ _ _ _ _ _ _ _ _ _ _ _ _ _ _ _ _ _ _ _ _ _ _ _ _ _ _ _ _ _ _ _ => h e
  | 2, e, _ => fun _ _ h _ _ _ _ _ _ _ _ _ _ _ _ _ _ _ _ _ _ _ _ _ _ _ _ _ _ _ _ _ _ _ _ _ _ _ _ _ _ _ _ _ => h e
  | 3, e, _ => fun _ _ _ h _ _ _ _ _ _ _ _ _ _ _ _ _ _ _ _ _ _ _ _ _ _ _ _ _ _ _ _ _ _ _ _ _ _ _ _ _ _ _ _ => h e
  | 4, e, _ => fun _ _ _ _ h _ _ _ _ _ _ _ _ _ _ _ _ _ _ _ _ _ _ _ _ _ _ _ _ _ _ _ _ _ _ _ _ _ _ _ _ _ _ _ => h e
  | 5, e, _ => fun _ _ _ _ _ h _ _ _ _ _ _ _ _ _ _ _ _ _ _ _ _ _ _ _ _ _ _ _ _ _ _ _ _ _ _ _ _ _ _ _ _ _ _ => h e
  | 6, e, _ => fun _ _ _ _ _ _ h _ _ _ _ _ _ _ _ _ _ _ _ _ _ _ _ _ _ _ _ _ _ _ _ _ _ _ _ _ _ _ _ _ _ _ _ _ => h e
  | 7, e, _ => fun _ _ _ _ _ _ _ h _ _ _ _ _ _ _ _ _ _ _ _ _ _ _ _ _ _ _ _ _ _ _ _ _ _ _ _ _ _ _ _ _ _ _ _ => h e
  | 8, e, _ => fun _ _ _ _ _ _ _ _ h _ _ _ _ _ _ _ _ _ _ _ _ _ _ _ _ _ _ _ _ _ _ _ _ _ _ _ _ _ _ _ _ _ _ _ => h e
  | 9, e, _ => fun _ _ _ _ _ _ _ _ _ h _ _ _ _ _ _ _ _ _ _ _ _ _ _ _ _ _ _ _ _ _ _ _ _ _ _ _ _ _ _ _ _ _ _ => h e
  | 10, e, _ => fun _ _ _ _ _ _ _ _ _ _ h _ _ _ _ _ _ _ _ _ _ _ _ _ _ _ _ _ _ _ _ _ _ _ _ _ _ _ _ _ _ _ _ _ => h e
  | 11, e, _ => fun _ _ _ _ _ _ _ _ _ _ _ h _ _ _ _ _ _ _ _ _ _ _ _ _ _ _ _ _ _ _ _ _ _ _ _ _ _ _ _ _ _ _ _ => h e
  | 12, e, _ => fun _ _ _ _ _ _ _ _ _ _ _ _ h _ _ _ _ _ _ _ _ _ _ _ _ _ _ _ _ _ _ _ _ _ _ _ _ _ _ _ _ _ _ _ => h e
  | 13, e, _ => fun _ _ _ _ _ _ _ _ _ _ _ _ _ h _ _ _ _ _ _ _ _ _ _ _ _ _ _ _ _ _ _ _ _ _ _ _ _ _ _ _ _ _ _ => h e
  | 14, e, _ => fun _ _ _ _ _ _ _ _ _ _ _ _ _ _ h _ _ _ _ _ _ _ _ _ _ _ _ _ _ _ _ _ _ _ _ _ _ _ _ _ _ _ _ _ => h e
  | 15, e, _ => fun _ _ _ _ _ _ _ _ _ _ _ _ _ _ _ h _ _ _ _ _ _ _ _ _ _ _ _ _ _ _ _ _ _ _ _ _ _ _ _ _ _ _ _ => h e
  | 16, e, _ => fun _ _ _ _ _ _ _ _ _ _ _ _ _ _ _ _ h _ _ _ _ _ _ _ _ _ _ _ _ _ _ _ _ _ _ _ _ _ _ _ _ _ _ _ => h e
  | 17, e, _ => fun _ _ _ _ _ _ _ _ _ _ _ _ _ _ _ _ _ h _ _ _ _ _ _ _ _ _ _ _ _ _ _ _ _ _ _ _ _ _ _ _ _ _ _ => h e
  | 18, e, _ => fun _ _ _ _ _ _ _ _ _ _ _ _ _ _ _ _ _ _ h _ _ _ _ _ _ _ _ _ _ _ _ _ _ _ _ _ _ _ _ _ _ _ _ _ => h e
  | 19, e, _ => fun _ _ _ _ _ _ _ _ _ _ _ _ _ _ _ _ _ _ _ h _ _ _ _ _ _ _ _ _ _ _ _ _ _ _ _ _ _ _ _ _ _ _ _ => h e
  | 20, e, _ => fun _ _ _ _ _ _ _ _ _ _ _ _ _ _ _ _ _ _ _ _ h _ _ _ _ _ _ _ _ _ _ _ _ _ _ _ _ _ _ _ _ _ _ _ => h e
  | 21, e, _ => fun _ _ _ _ _ _ _ _ _ _ _ _ _ _ _ _ _ _ _ _ _ h _ _ _ _ _ _ _ _ _ _ _ _ _ _ _ _ _ _ _ _ _ _ => h e
  | 22, e, _ => fun _ _ _ _ _ _ _ _ _ _ _ _ _ _ _ _ _ _ _ _ _ _ h _ _ _ _ _ _ _ _ _ _ _ _ _ _ _ _ _ _ _ _ _ => h e
  | 23, e, _ => fun _ _ _ _ _ _ _ _ _ _ _ _ _ _ _ _ _ _ _ _ _ _ _ h _ _ _ _ _ _ _ _ _ _ _ _ _ _ _ _ _ _ _ _ => h e
  | 24, e, _ => fun _ _ _ _ _ _ _ _ _ _ _ _ _ _ _ _ _ _ _ _ _ _ _ _ h _ _ _ _ _ _ _ _ _ _ _ _ _ _ _ _ _ _ _ => h e
  | 25, e, _ => fun _ _ _ _ _ _ _ _ _ _ _ _ _ _ _ _ _ _ _ _ _ _ _ _ _ h _ _ _ _ _ _ _ _ _ _ _ _ _ _ _ _ _ _ => h e
  | 26, e, _ => fun _ _ _ _ _ _ _ _ _ _ _ _ _ _ _ _ _ _ _ _ _ _ _ _ _ _ h _ _ _ _ _ _ _ _ _ _ _ _ _ _ _ _ _ => h e
  | 27, e, _ => fun _ _ _ _ _ _ _ _ _ _ _ _ _ _ _ _ _ _ _ _ _ _ _ _ _ _ _ h _ _ _ _ _ _ _ _ _ _ _ _ _ _ _ _ => h e
  | 28, e, _ => fun _ _ _ _ _ _ _ _ _ _ _ _ _ _ _ _ _ _ _ _ _ _ _ _ _ _ _ _ h _ _ _ _ _ _ _ _ _ _ _ _ _ _ _ => h e
  | 29, e, _ => fun _ _ _ _ _ _ _ _ _ _ _ _ _ _ _ _ _ _ _ _ _ _ _ _ _ _ _ _ _ h _ _ _ _ _ _ _ _ _ _ _ _ _ _ => h e
  | 30, e, _ => fun _ _ _ _ _ _ _ _ _ _ _ _ _ _ _ _ _ _ _ _ _ _ _ _ _ _ _ _ _ _ h _ _ _ _ _ _ _ _ _ _ _ _ _ => h e
  | 31, e, _ => fun _ _ _ _ _ _ _ _ _ _ _ _ _ _ _ _ _ _ _ _ _ _ _ _ _ _ _ _ _ _ _ h _ _ _ _ _ _ _ _ _ _ _ _ => h e
  | 32, e, _ => fun _ _ _ _ _ _ _ _ _ _ _ _ _ _ _ _ _ _ _ _ _ _ _ _ _ _ _ _ _ _ _ _ h _ _ _ _ _ _ _ _ _ _ _ => h e
  | 33, e, _ => fun _ _ _ _ _ _ _ _ _ _ _ _ _ _ _ _ _ _ _ _ _ _ _ _ _ _ _ _ _ _ _ _ _ h _ _ _ _ _ _ _ _ _ _ => h e
  | 34, e, _ => fun _ _ _ _ _ _ _ _ _ _ _ _ _ _ _ _ _ _ _ _ _ _ _ _ _ _ _ _ _ _ _ _ _ _ h _ _ _ _ _ _ _ _ _ => h e
  | 35, e, _ => fun _ _ _ _ _ _ _ _ _ _ _ _ _ _ _ _ _ _ _ _ _ _ _ _ _ _ _ _ _ _ _ _ _ _ _ h _ _ _ _ _ _ _ _ => h e
  | 36, e, _ => fun _ _ _ _ _ _ _ _ _ _ _ _ _ _ _ _ _ _ _ _ _ _ _ _ _ _ _ _ _ _ _ _ _ _ _ _ h _ _ _ _ _ _ _ => h e
  | 37, e, _ => fun _ _ _ _ _ _ _ _ _ _ _ _ _ _ _ _ _ _ _ _ _ _ _ _ _ _ _ _ _ _ _ _ _ _ _ _ _ h _ _ _ _ _ _ => h e
  | 38, e, _ => fun _ _ _ _ _ _ _ _ _ _ _ _ _ _ _ _ _ _ _ _ _ _ _ _ _ _ _ _ _ _ _ _ _ _ _ _ _ _ h _ _ _ _ _ => h e
  | 39, e, _ => fun _ _ _ _ _ _ _ _ _ _ _ _ _ _ _ _ _ _ _ _ _ _ _ _ _ _ _ _ _ _ _ _ _ _ _ _ _ _ _ h _ _ _ _ => h e
  | 40, e, _ => fun _ _ _ _ _ _ _ _ _ _ _ _ _ _ _ _ _ _ _ _ _ _ _ _ _ _ _ _ _ _ _ _ _ _ _ _ _ _ _ _ h _ _ _ => h e
  | 41, e, _ => fun _ _ _ _ _ _ _ _ _ _ _ _ _ _ _ _ _ _ _ _ _ _ _ _ _ _ _ _ _ _ _ _ _ _ _ _ _ _ _ _ _ h _ _ => h e
  | 42, e, _ => fun _ _ _ _ _ _ _ _ _ _ _ _ _ _ _ _ _ _ _ _ _ _ _ _ _ _ _ _ _ _ _ _ _ _ _ _ _ _ _ _ _ _ h _ => h e
  | 43, e, _ => fun _ _ _ _ _ _ _ _ _ _ _ _ _ _ _ _ _ _ _ _ _ _ _ _ _ _ _ _ _ _ _ _ _ _ _ _ _ _ _ _ _ _ _ h => h e
  | n + 44, _, hn => absurd hn (by omega)
theorem xt_out44 {v : Int32} (h0 : ¬ v = nI 0) (h1 : ¬ v = nI 1) (h2 : ¬ v = nI 2) (h3 : ¬ v = nI 3) (h4 : ¬ v = nI 4) (h5 : ¬ v = nI 5) (h6 : ¬ v = nI 6) (h7 : ¬ v = nI 7) (h8 : ¬ v = nI 8) (h9 : ¬ v = nI 9) (h10 : ¬ v = nI 10) (h11 : ¬ v = nI 11) (h12 : ¬ v = nI 12) (h13 : ¬ v = nI 13) (h14 : ¬ v = nI 14) (h15 : ¬ v = nI 15) (h16 : ¬ v = nI 16) (h17 : ¬ v = nI 17) (h18 : ¬ v = nI 18) (h19 : ¬ v = nI 19) (h20 : ¬ v = nI 20) (h21 : ¬ v = nI 21) (h22 : ¬ v = nI 22) (h23 : ¬ v = nI 23) (h24 : ¬ v = nI 24) (h25 : ¬ v = nI 25) (h26 : ¬ v = nI 26) (h27 : ¬ v = nI 27) (h28 : ¬ v = nI 28) (h29 : ¬ v = nI 29) (h30 : ¬ v = nI 30) (h31 : ¬ v = nI 31) (h32 : ¬ v = nI 32) (h33 : ¬ v = nI 33) (h34 : ¬ v = nI 34) (h35 : ¬ v = nI 35) (h36 : ¬ v = nI 36) (h37 : ¬ v = nI 37) (h38 : ¬ v = nI 38) (h39 : ¬ v = nI 39) (h40 : ¬ v = nI 40) (h41 : ¬ v = nI 41) (h42 : ¬ v = nI 42) (h43 : ¬ v = nI 43) : v.toInt < 0 ∨ 43 < v.toInt := by
  by_cases c : v.toInt < 0 ∨ 43 < v.toInt
  · exact c
  · exfalso
    have e : v = nI v.toInt.toNat := by
      apply Int32.toInt_inj.mp
      rw [nI_toInt (by omega)]
      omega
    exact xt_n44 _ e (by omega) h0 h1 h2 h3 h4 h5 h6 h7 h8 h9 h10 h11 h12 h13 h14 h15 h16 h17 h18 h19 h20 h21 h22 h23 h24 h25 h26 h27 h28 h29 h30 h31 h32 h33 h34 h35 h36 h37 h38 h39 h40 h41 h42 h43

theorem L_turn {d : Nat} {x m out outD sc len : Nat} {scr : Nat → Int32} {h : xG} {S : xMS} {i : Nat} (hJ : xJ x m out outD sc len scr h S) (hl : len ≤ 144) (hi2 : i ≤ 200) {Q : Option Value ⊕ Nat → xG → Prop} (kk : i + 6 ≤ len → ∀ (h' : xG) (S' : xMS), xJ x m out outD sc len scr h' S' → xsz h' + xsl h' ≤ xsz h + xsl h + 46100 → XW M_L_law (d + 92) 3272 [(0, .ref sc), (1, .ref x), (2, .ref m), (3, .ref out), (4, .ref outD), (5, .int (nI i))] [] h' Q) (ke : ¬ i + 6 ≤ len → Q (.inl (some (.int (nI 1)))) h) : XW M_L_law (d + 92) 28 [(0, .ref sc), (1, .ref x), (2, .ref m), (3, .ref out), (4, .ref outD), (5, .int (nI i))] [] h Q := by
  have c1 := hJ.2.2.2.2.1
  have c3 := hJ.2.2.2.2.2.2.1
  have c4 := hJ.2.2.2.2.2.2.2
  refine xw_iload (pc := 28) dL_law_28 5 rfl ?_
  refine xw_aload_n (pc := 30) dL_law_30 0 rfl ?_
  refine xw_alen (q := 0) (pc := 31) dL_law_31 (by simp [-List.getD_eq_getElem?_getD, xE_setI, xsz_setI, xsl_setI, xtag_setI, xown_setI, xlen_setI, xE_setR, xsz_setR, xsl_setR, xtag_setR, xown_setR, xlen_setR, xE_setW, xsz_setW, xsl_setW, xtag_setW, xown_setW, xlen_setW, xi_setR, xi_setW, xr_setI, xr_setW, xww_setI, xww_setR, xi_setI, xr_setR, xww_setW, xE_new, xsz_new, xsl_new, c1]) (by first | decide | omega) ?_
  refine xw_bipush (v := nI 6) (pc := 32) dL_law_32 (by decide +kernel) ?_
  rw [c3]
  refine xw_isub (pc := 34) dL_law_34 ?_
  refine xw_icmp_gt (pc := 35) 3278 dL_law_35 rfl (fun hb35 => ?_) (fun hb35 => ?_)
  · have hi := (len6 hl hi2).mp hb35
    refine xw_iconst (v := nI 1) (pc := 3278) dL_law_3278 rfl ?_
    refine xw_iret (pc := 3279) .boolean dL_law_3279 rfl ?_ 
    exact ke hi
  · have hi : i + 6 ≤ len := Classical.byContradiction (fun h9 => hb35 ((len6 hl hi2).mpr h9))
    replace kk := kk hi
    refine xw_aload_n (pc := 38) dL_law_38 0 rfl ?_
    refine xw_iload (pc := 39) dL_law_39 5 rfl ?_
    refine xw_iald (k := i) (pc := 41) dL_law_41 (by simp [-List.getD_eq_getElem?_getD, xE_setI, xsz_setI, xsl_setI, xtag_setI, xown_setI, xlen_setI, xE_setR, xsz_setR, xsl_setR, xtag_setR, xown_setR, xlen_setR, xE_setW, xsz_setW, xsl_setW, xtag_setW, xown_setW, xlen_setW, xi_setR, xi_setW, xr_setI, xr_setW, xww_setI, xww_setR, xi_setI, xr_setR, xww_setW, xE_new, xsz_new, xsl_new, c1]) rfl (by rw [c3]; omega) ?_
    rw [c4 i (by omega)]
    refine xw_bipush (v := nI 63) (pc := 42) dL_law_42 (by decide +kernel) ?_
    refine xw_iand (pc := 44) dL_law_44 ?_
    by_cases hs45_0 : (scr i &&& nI 63) = nI 0
    · rw [hs45_0]
      refine xw_tableIn (x := nI 0) (pc := 45) 236 dL_law_45 (by decide) (by decide) rfl rfl ?_
      exact LC_scope hJ hi hl kk
    by_cases hs45_1 : (scr i &&& nI 63) = nI 1
    · rw [hs45_1]
      refine xw_tableIn (x := nI 1) (pc := 45) 292 dL_law_45 (by decide) (by decide) rfl rfl ?_
      exact LC_setDefault hJ hi hl kk
    by_cases hs45_2 : (scr i &&& nI 63) = nI 2
    · rw [hs45_2]
      refine xw_tableIn (x := nI 2) (pc := 45) 360 dL_law_45 (by decide) (by decide) rfl rfl ?_
      exact LC_scopeOf hJ hi hl kk
    by_cases hs45_3 : (scr i &&& nI 63) = nI 3
    · rw [hs45_3]
      refine xw_tableIn (x := nI 3) (pc := 45) 428 dL_law_45 (by decide) (by decide) rfl rfl ?_
      exact LC_isWithin hJ hi hl kk
    by_cases hs45_4 : (scr i &&& nI 63) = nI 4
    · rw [hs45_4]
      refine xw_tableIn (x := nI 4) (pc := 45) 503 dL_law_45 (by decide) (by decide) rfl rfl ?_
      exact LC_rule hJ hi hl kk
    by_cases hs45_5 : (scr i &&& nI 63) = nI 5
    · rw [hs45_5]
      refine xw_tableIn (x := nI 5) (pc := 45) 607 dL_law_45 (by decide) (by decide) rfl rfl ?_
      exact LC_except hJ hi hl kk
    by_cases hs45_6 : (scr i &&& nI 63) = nI 6
    · rw [hs45_6]
      refine xw_tableIn (x := nI 6) (pc := 45) 711 dL_law_45 (by decide) (by decide) rfl rfl ?_
      exact LC_test hJ hi hl kk
    by_cases hs45_7 : (scr i &&& nI 63) = nI 7
    · rw [hs45_7]
      refine xw_tableIn (x := nI 7) (pc := 45) 803 dL_law_45 (by decide) (by decide) rfl rfl ?_
      exact LC_setFactor hJ hi hl kk
    by_cases hs45_8 : (scr i &&& nI 63) = nI 8
    · rw [hs45_8]
      refine xw_tableIn (x := nI 8) (pc := 45) 871 dL_law_45 (by decide) (by decide) rfl rfl ?_
      exact LC_end hJ hi hl kk
    by_cases hs45_9 : (scr i &&& nI 63) = nI 9
    · rw [hs45_9]
      refine xw_tableIn (x := nI 9) (pc := 45) 939 dL_law_45 (by decide) (by decide) rfl rfl ?_
      exact LC_ruleOf hJ hi hl kk
    by_cases hs45_10 : (scr i &&& nI 63) = nI 10
    · rw [hs45_10]
      refine xw_tableIn (x := nI 10) (pc := 45) 1007 dL_law_45 (by decide) (by decide) rfl rfl ?_
      exact LC_testOf hJ hi hl kk
    by_cases hs45_11 : (scr i &&& nI 63) = nI 11
    · rw [hs45_11]
      refine xw_tableIn (x := nI 11) (pc := 45) 1087 dL_law_45 (by decide) (by decide) rfl rfl ?_
      exact LC_covers hJ hi hl kk
    by_cases hs45_12 : (scr i &&& nI 63) = nI 12
    · rw [hs45_12]
      refine xw_tableIn (x := nI 12) (pc := 45) 1186 dL_law_45 (by decide) (by decide) rfl rfl ?_
      exact LC_holds hJ hi hl kk
    by_cases hs45_13 : (scr i &&& nI 63) = nI 13
    · rw [hs45_13]
      refine xw_tableIn (x := nI 13) (pc := 45) 1285 dL_law_45 (by decide) (by decide) rfl rfl ?_
      exact LC_holdsAgain hJ hi hl kk
    by_cases hs45_14 : (scr i &&& nI 63) = nI 14
    · rw [hs45_14]
      refine xw_tableIn (x := nI 14) (pc := 45) 1384 dL_law_45 (by decide) (by decide) rfl rfl ?_
      exact LC_outcome hJ hi hl kk
    by_cases hs45_15 : (scr i &&& nI 63) = nI 15
    · rw [hs45_15]
      refine xw_tableIn (x := nI 15) (pc := 45) 1464 dL_law_45 (by decide) (by decide) rfl rfl ?_
      exact LC_chain hJ hi hl kk
    by_cases hs45_16 : (scr i &&& nI 63) = nI 16
    · rw [hs45_16]
      refine xw_tableIn (x := nI 16) (pc := 45) 1556 dL_law_45 (by decide) (by decide) rfl rfl ?_
      exact LC_rival hJ hi hl kk
    by_cases hs45_17 : (scr i &&& nI 63) = nI 17
    · rw [hs45_17]
      refine xw_tableIn (x := nI 17) (pc := 45) 1648 dL_law_45 (by decide) (by decide) rfl rfl ?_
      exact LC_nextChange hJ hi hl kk
    by_cases hs45_18 : (scr i &&& nI 63) = nI 18
    · rw [hs45_18]
      refine xw_tableIn (x := nI 18) (pc := 45) 1728 dL_law_45 (by decide) (by decide) rfl rfl ?_
      exact LC_days hJ hi hl kk
    by_cases hs45_19 : (scr i &&& nI 63) = nI 19
    · rw [hs45_19]
      refine xw_tableIn (x := nI 19) (pc := 45) 1808 dL_law_45 (by decide) (by decide) rfl rfl ?_
      exact LC_burden hJ hi hl kk
    by_cases hs45_20 : (scr i &&& nI 63) = nI 20
    · rw [hs45_20]
      refine xw_tableIn (x := nI 20) (pc := 45) 1910 dL_law_45 (by decide) (by decide) rfl rfl ?_
      exact LC_percent hJ hi hl kk
    by_cases hs45_21 : (scr i &&& nI 63) = nI 21
    · rw [hs45_21]
      refine xw_tableIn (x := nI 21) (pc := 45) 1990 dL_law_45 (by decide) (by decide) rfl rfl ?_
      exact LC_work hJ hi hl kk
    by_cases hs45_22 : (scr i &&& nI 63) = nI 22
    · rw [hs45_22]
      refine xw_tableIn (x := nI 22) (pc := 45) 2082 dL_law_45 (by decide) (by decide) rfl rfl ?_
      exact LC_caseOf hJ hi hl kk
    by_cases hs45_23 : (scr i &&& nI 63) = nI 23
    · rw [hs45_23]
      refine xw_tableIn (x := nI 23) (pc := 45) 2150 dL_law_45 (by decide) (by decide) rfl rfl ?_
      exact LC_dropCase hJ hi hl kk
    by_cases hs45_24 : (scr i &&& nI 63) = nI 24
    · rw [hs45_24]
      refine xw_tableIn (x := nI 24) (pc := 45) 2206 dL_law_45 (by decide) (by decide) rfl rfl ?_
      exact LC_wrong hJ hi hl kk
    by_cases hs45_25 : (scr i &&& nI 63) = nI 25
    · rw [hs45_25]
      refine xw_tableIn (x := nI 25) (pc := 45) 2219 dL_law_45 (by decide) (by decide) rfl rfl ?_
      exact LC_tested hJ hi hl kk
    by_cases hs45_26 : (scr i &&& nI 63) = nI 26
    · rw [hs45_26]
      refine xw_tableIn (x := nI 26) (pc := 45) 2232 dL_law_45 (by decide) (by decide) rfl rfl ?_
      exact LC_without hJ hi hl kk
    by_cases hs45_27 : (scr i &&& nI 63) = nI 27
    · rw [hs45_27]
      refine xw_tableIn (x := nI 27) (pc := 45) 2288 dL_law_45 (by decide) (by decide) rfl rfl ?_
      exact LC_sheet hJ hi hl kk
    by_cases hs45_28 : (scr i &&& nI 63) = nI 28
    · rw [hs45_28]
      refine xw_tableIn (x := nI 28) (pc := 45) 2344 dL_law_45 (by decide) (by decide) rfl rfl ?_
      exact LC_lay hJ hi hl kk
    by_cases hs45_29 : (scr i &&& nI 63) = nI 29
    · rw [hs45_29]
      refine xw_tableIn (x := nI 29) (pc := 45) 2424 dL_law_45 (by decide) (by decide) rfl rfl ?_
      exact LC_takeSheet hJ hi hl kk
    by_cases hs45_30 : (scr i &&& nI 63) = nI 30
    · rw [hs45_30]
      refine xw_tableIn (x := nI 30) (pc := 45) 2480 dL_law_45 (by decide) (by decide) rfl rfl ?_
      exact LC_keepRow hJ hi hl kk
    by_cases hs45_31 : (scr i &&& nI 63) = nI 31
    · rw [hs45_31]
      refine xw_tableIn (x := nI 31) (pc := 45) 2536 dL_law_45 (by decide) (by decide) rfl rfl ?_
      exact LC_copyRow hJ hi hl kk
    by_cases hs45_32 : (scr i &&& nI 63) = nI 32
    · rw [hs45_32]
      refine xw_tableIn (x := nI 32) (pc := 45) 2616 dL_law_45 (by decide) (by decide) rfl rfl ?_
      exact LC_element hJ hi hl kk
    by_cases hs45_33 : (scr i &&& nI 63) = nI 33
    · rw [hs45_33]
      refine xw_tableIn (x := nI 33) (pc := 45) 2684 dL_law_45 (by decide) (by decide) rfl rfl ?_
      exact LC_total hJ hi hl kk
    by_cases hs45_34 : (scr i &&& nI 63) = nI 34
    · rw [hs45_34]
      refine xw_tableIn (x := nI 34) (pc := 45) 2761 dL_law_45 (by decide) (by decide) rfl rfl ?_
      exact LC_append hJ hi hl kk
    by_cases hs45_35 : (scr i &&& nI 63) = nI 35
    · rw [hs45_35]
      refine xw_tableIn (x := nI 35) (pc := 45) 2819 dL_law_45 (by decide) (by decide) rfl rfl ?_
      exact LC_read hJ hi hl kk
    by_cases hs45_36 : (scr i &&& nI 63) = nI 36
    · rw [hs45_36]
      refine xw_tableIn (x := nI 36) (pc := 45) 2863 dL_law_45 (by decide) (by decide) rfl rfl ?_
      exact LC_faultPosition hJ hi hl kk
    by_cases hs45_37 : (scr i &&& nI 63) = nI 37
    · rw [hs45_37]
      refine xw_tableIn (x := nI 37) (pc := 45) 2907 dL_law_45 (by decide) (by decide) rfl rfl ?_
      exact LC_explain hJ hi hl kk
    by_cases hs45_38 : (scr i &&& nI 63) = nI 38
    · rw [hs45_38]
      refine xw_tableIn (x := nI 38) (pc := 45) 2987 dL_law_45 (by decide) (by decide) rfl rfl ?_
      exact LC_character hJ hi hl kk
    by_cases hs45_39 : (scr i &&& nI 63) = nI 39
    · rw [hs45_39]
      refine xw_tableIn (x := nI 39) (pc := 45) 3043 dL_law_45 (by decide) (by decide) rfl rfl ?_
      by_cases hz : scr (i + 1) = 0
      · exact LC_reason_0 hJ hi hl kk hz
      · exact LC_reason_1 hJ hi hl kk hz
    by_cases hs45_40 : (scr i &&& nI 63) = nI 40
    · rw [hs45_40]
      refine xw_tableIn (x := nI 40) (pc := 45) 3115 dL_law_45 (by decide) (by decide) rfl rfl ?_
      exact LC_account hJ hi hl kk
    by_cases hs45_41 : (scr i &&& nI 63) = nI 41
    · rw [hs45_41]
      refine xw_tableIn (x := nI 41) (pc := 45) 3171 dL_law_45 (by decide) (by decide) rfl rfl ?_
      exact LC_undo hJ hi hl kk
    by_cases hs45_42 : (scr i &&& nI 63) = nI 42
    · rw [hs45_42]
      refine xw_tableIn (x := nI 42) (pc := 45) 3215 dL_law_45 (by decide) (by decide) rfl rfl ?_
      exact LC_save hJ hi hl kk
    by_cases hs45_43 : (scr i &&& nI 63) = nI 43
    · rw [hs45_43]
      refine xw_tableIn (x := nI 43) (pc := 45) 3228 dL_law_45 (by decide) (by decide) rfl rfl ?_
      exact LC_restore hJ hi hl kk
    refine xw_tableOut (pc := 45) 3272 dL_law_45 (by first | (rw [nI_toInt (by omega)]; right; omega) | exact xt_out44 hs45_0 hs45_1 hs45_2 hs45_3 hs45_4 hs45_5 hs45_6 hs45_7 hs45_8 hs45_9 hs45_10 hs45_11 hs45_12 hs45_13 hs45_14 hs45_15 hs45_16 hs45_17 hs45_18 hs45_19 hs45_20 hs45_21 hs45_22 hs45_23 hs45_24 hs45_25 hs45_26 hs45_27 hs45_28 hs45_29 hs45_30 hs45_31 hs45_32 hs45_33 hs45_34 hs45_35 hs45_36 hs45_37 hs45_38 hs45_39 hs45_40 hs45_41 hs45_42 hs45_43) rfl ?_
    exact kk _ _ hJ (by omega)
theorem L_loop {d : Nat} {x m out outD sc len : Nat} {scr : Nat → Int32} (hl : len ≤ 144) {B : Nat} {Q : Option Value ⊕ Nat → xG → Prop} (hQ : ∀ h, xsz h + xsl h ≤ B → Q (.inl (some (.int (nI 1)))) h) : ∀ (j i : Nat) (h : xG) (S : xMS), len < i + 6 * j + 6 → i ≤ 150 → xJ x m out outD sc len scr h S → xsz h + xsl h + 46100 * ((len - i) / 6) ≤ B → XW M_L_law (d + 92) 28 [(0, .ref sc), (1, .ref x), (2, .ref m), (3, .ref out), (4, .ref outD), (5, .int (nI i))] [] h Q
  | 0, i, h, S, hj, hi, hJ, hB => L_turn hJ hl (by omega) (fun h6 => absurd h6 (by omega)) (fun _ => hQ h (by omega))
  | j + 1, i, h, S, hj, hi, hJ, hB => L_turn hJ hl (by omega) (fun h6 h' S' hJ' hs => by
    refine xw_iinc (v := nI (i + 6)) (l' := [(5, _), (0, _), (1, _), (2, _), (3, _), (4, _)]) (pc := 3272) dL_law_3272 5 rfl (nI_add _ 6) (by decide) rfl ?_
    refine xw_goto (pc := 3275) 28 dL_law_3275 rfl ?_
    refine xw_pick (pc := 28) (l' := [(0, _), (1, _), (2, _), (3, _), (4, _), (5, _)]) [1, 2, 3, 4, 5, 0] rfl ?_
    exact L_loop hl hQ j (i + 6) h' S' (by omega) (by omega) hJ' (by omega)) (fun _ => hQ h (by omega))
