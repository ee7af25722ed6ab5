/-! CLASS 6: what is possible for a rule -/
set_option maxRecDepth 100000
/-- a test bars a value of a feature -/
def tbar (g : xG) (b : Nat) (f v : Int32) : Bool := decide (xi g b 0 = f) && !tfit g b v
theorem SP_X12_bars {d : Nat} {g : xG} {a : Nat} {f v : Int32} (h1 : 10 ≤ xtag g a) (h2 : xtag g a ≤ 13) : XM M_X12_bars (d + 2) [.ref a, .int f, .int v] g (xOne (some (.int (bI (tbar g a f v)))) g) := by
  have htx : xsub 91 (xtag g a) = true := by
    have h : xtag g a = 10 ∨ xtag g a = 11 ∨ xtag g a = 12 ∨ xtag g a = 13 := by omega
    rcases h with h | h | h | h <;> rw [h] <;> rfl
  refine xm_of (by decide +kernel) (Nat.le_of_ble_eq_true rfl) ?_
  show XW _ _ 0 [(0, _), (1, _), (2, _)] [] _ _
  refine xw_aload_n (pc := 0) dX12_bars_0 0 rfl ?_
  refine xw_getI (pc := 1) fd_X12_7 dX12_bars_1 (by first | assumption | (simp [xE_setI, xsz_setI, xsl_setI, xtag_setI, xown_setI, xlen_setI, xE_setR, xsz_setR, xsl_setR, xtag_setR, xown_setR, xlen_setR, xE_setW, xsz_setW, xsl_setW, xtag_setW, xown_setW, xlen_setW, xi_setR, xi_setW, xr_setI, xr_setW, xww_setI, xww_setR, xi_setI, xr_setR, xww_setW, xE_new, xsz_new, xsl_new, htx, xsub]; done) | (simp [xE_setI, xsz_setI, xsl_setI, xtag_setI, xown_setI, xlen_setI, xE_setR, xsz_setR, xsl_setR, xtag_setR, xown_setR, xlen_setR, xE_setW, xsz_setW, xsl_setW, xtag_setW, xown_setW, xlen_setW, xi_setR, xi_setW, xr_setI, xr_setW, xww_setI, xww_setR, xi_setI, xr_setR, xww_setW, xE_new, xsz_new, xsl_new, htx] <;> rfl)) ?_
  refine xw_iload_n (pc := 4) dX12_bars_4 1 rfl ?_
  refine xw_icmp_ne (pc := 5) 20 dX12_bars_5 rfl (fun hb5 => ?_) (fun hb5 => ?_)
  · refine xw_iconst (v := nI 0) (pc := 20) dX12_bars_20 rfl ?_
    refine xw_iret (pc := 21) .boolean dX12_bars_21 rfl ?_ 
    refine ⟨congrArg (fun x => Sum.inl (some (Value.int x))) ?_, rfl⟩
    first | (change bI true = _; simp_all [tbar]; done) | (change bI false = _; simp_all [tbar]; done) | (change bI false = _; simp [tbar, *]; done)
  · refine xw_aload_n (pc := 8) dX12_bars_8 0 rfl ?_
    refine xw_iload_n (pc := 9) dX12_bars_9 2 rfl ?_
    refine xw_fits (pc := 10) h1 h2 dX12_bars_10 q1446 (Nat.le_of_ble_eq_true rfl) ?_
    refine xw_if_ne (pc := 13) 20 dX12_bars_13 rfl (fun hb13 => ?_) (fun hb13 => ?_)
    · replace hb13 := bI_n0.mp hb13
      refine xw_iconst (v := nI 0) (pc := 20) dX12_bars_20 rfl ?_
      refine xw_iret (pc := 21) .boolean dX12_bars_21 rfl ?_ 
      refine ⟨congrArg (fun x => Sum.inl (some (Value.int x))) ?_, rfl⟩
      first | (change bI true = _; simp_all [tbar]; done) | (change bI false = _; simp_all [tbar]; done) | (change bI false = _; simp [tbar, *]; done)
    · replace hb13 := bI_0.mp hb13
      refine xw_iconst (v := nI 1) (pc := 16) dX12_bars_16 rfl ?_
      refine xw_goto (pc := 17) 21 dX12_bars_17 rfl ?_
      refine xw_iret (pc := 21) .boolean dX12_bars_21 rfl ?_ 
      refine ⟨congrArg (fun x => Sum.inl (some (Value.int x))) ?_, rfl⟩
      first | (change bI true = _; simp_all [tbar]; done) | (change bI false = _; simp_all [tbar]; done) | (change bI false = _; simp [tbar, *]; done)

theorem xw_tbars {M : xM} {d pc : Nat} {l : List (Nat × Value)} {rest : List Value} {g : xG} {Q : Option Value ⊕ Nat → xG → Prop} {idx b : Nat} {f v : Int32} (hb : 10 ≤ xtag g b) (hb2 : xtag g b ≤ 13) (hd : decode M.2.1 pc = .ok (.invokevirtual idx, 3)) (hl : Cond.methodLink M.1.cls idx ⟨"PolicyNotation$Test", "bars", "(II)Z"⟩ ∈ lw_all) (hr : (rest.map fun v => v.category).sum ≤ 8) (k : XW M (d + 3) (pc + 3) l (.int (bI (tbar g b f v)) :: rest) g Q) : XW M (d + 3) pc l (.int v :: .int f :: .ref b :: rest) g Q := by
  have h : xtag g b = 10 ∨ xtag g b = 11 ∨ xtag g b = 12 ∨ xtag g b = 13 := by omega
  rcases h with h | h | h | h
  · exact xw_callV (xr_U (x := ⟨"PolicyNotation$Test", "bars", "(II)Z"⟩) (as := [_, _]) ok_X12_bars rfl (by decide) hl q1440 (Or.inr ⟨_, _, _, q1439, q1445⟩) ⟨by decide, by decide, by decide +kernel⟩ q1439 (by rw [h]; rfl) (by rw [h]; exact q1441) hd rfl rfl hr) (SP_X12_bars hb hb2) k
  · exact xw_callV (xr_U (x := ⟨"PolicyNotation$Test", "bars", "(II)Z"⟩) (as := [_, _]) ok_X12_bars rfl (by decide) hl q1440 (Or.inr ⟨_, _, _, q1439, q1445⟩) ⟨by decide, by decide, by decide +kernel⟩ q1439 (by rw [h]; rfl) (by rw [h]; exact q1443) hd rfl rfl hr) (SP_X12_bars hb hb2) k
  · exact xw_callV (xr_U (x := ⟨"PolicyNotation$Test", "bars", "(II)Z"⟩) (as := [_, _]) ok_X12_bars rfl (by decide) hl q1440 (Or.inr ⟨_, _, _, q1439, q1445⟩) ⟨by decide, by decide, by decide +kernel⟩ q1439 (by rw [h]; rfl) (by rw [h]; exact q1442) hd rfl rfl hr) (SP_X12_bars hb hb2) k
  · exact xw_callV (xr_U (x := ⟨"PolicyNotation$Test", "bars", "(II)Z"⟩) (as := [_, _]) ok_X12_bars rfl (by decide) hl q1440 (Or.inr ⟨_, _, _, q1439, q1445⟩) ⟨by decide, by decide, by decide +kernel⟩ q1439 (by rw [h]; rfl) (by rw [h]; exact q1444) hd rfl rfl hr) (SP_X12_bars hb hb2) k
/-- the tests ts, on the heap: each is one -/
def xTs (g : xG) (ts : List Nat) : Prop := ∀ j, j < ts.length → 10 ≤ xtag g (ts.getD j 0) ∧ xtag g (ts.getD j 0) ≤ 13
theorem lp_X7_bars {d : Nat} {g : xG} {a o tl arr : Nat} {ts : List Nat} (ht : xtag g a = 6 ∨ xtag g a = 7) (htl : xr g a 6 = some tl) (hL : xAL g o tl arr ts) (hT : xTs g ts) (f v : Int32) : ∀ (jj j : Nat), ts.length - j < jj → j ≤ ts.length → anyK (fun j => tbar g (ts.getD j 0) f v) j = false → XW M_X7_bars (d + 3) 2 [(3, .int (nI j)), (0, .ref a), (1, .int f), (2, .int v)] [] g (xOne (some (.int (bI (anyK (fun j => tbar g (ts.getD j 0) f v) ts.length)))) g) := by
  intro jj
  induction jj with
  | zero => intro j h; omega
  | succ jj ih =>
  intro j hj hk hal
  have htx : xsub 90 (xtag g a) = true := by rcases ht with h | h <;> rw [h] <;> rfl
  have htl8 := hL.1
  have hlt := hL.2.2.2.2.2.2.2.1
  have hle := hL.2.2.2.2.2.2.1
  have anyT : ∀ (P : Nat → Bool) (x n : Nat), x < n → P x = true → anyK P n = true := by
    intro P x n
    induction n with
    | zero => intro h; omega
    | succ n ihn =>
      intro hx hp
      rw [anyK]
      by_cases hxn : x = n
      · rw [← hxn, hp, Bool.or_true]
      · rw [ihn (by omega) hp, Bool.true_or]
  refine xw_iload_n (pc := 2) dX7_bars_2 0 rfl ?_
  refine xw_aload_n (pc := 3) dX7_bars_3 1 rfl ?_
  refine xw_getS (b := tl) (pc := 4) fd_X7_20 dX7_bars_4 (by first | assumption | (simp [xE_setI, xsz_setI, xsl_setI, xtag_setI, xown_setI, xlen_setI, xE_setR, xsz_setR, xsl_setR, xtag_setR, xown_setR, xlen_setR, xE_setW, xsz_setW, xsl_setW, xtag_setW, xown_setW, xlen_setW, xi_setR, xi_setW, xr_setI, xr_setW, xww_setI, xww_setR, xi_setI, xr_setR, xww_setW, xE_new, xsz_new, xsl_new, htx, htl, xsub]; done) | (simp [xE_setI, xsz_setI, xsl_setI, xtag_setI, xown_setI, xlen_setI, xE_setR, xsz_setR, xsl_setR, xtag_setR, xown_setR, xlen_setR, xE_setW, xsz_setW, xsl_setW, xtag_setW, xown_setW, xlen_setW, xi_setR, xi_setW, xr_setI, xr_setW, xww_setI, xww_setR, xi_setI, xr_setR, xww_setW, xE_new, xsz_new, xsl_new, htx, htl] <;> rfl)) (by simp [xE_setI, xsz_setI, xsl_setI, xtag_setI, xown_setI, xlen_setI, xE_setR, xsz_setR, xsl_setR, xtag_setR, xown_setR, xlen_setR, xE_setW, xsz_setW, xsl_setW, xtag_setW, xown_setW, xlen_setW, xi_setR, xi_setW, xr_setI, xr_setW, xww_setI, xww_setR, xi_setI, xr_setR, xww_setW, xE_new, xsz_new, xsl_new, htx, htl]) ?_
  refine xw_callV (pc := 7) (xr_V (as := []) ok_J2_size rfl (by decide) q797 q702 q703 (by rw [htl8]; rfl) (by rw [htl8]; rfl) dX7_bars_7 rfl rfl (Nat.le_of_ble_eq_true rfl)) (SP_J2_size hL) ?_
  refine xw_icmp_ge (pc := 10) 40 dX7_bars_10 rfl (fun hb10 => ?_) (fun hb10 => ?_)
  · replace hb10 : ts.length ≤ j := (nI_leI (a := ts.length) (b := j) (by omega) (by omega)).mp hb10
    refine xw_iconst (v := nI 0) (pc := 40) dX7_bars_40 rfl ?_
    refine xw_iret (pc := 41) .boolean dX7_bars_41 rfl ?_ 
    obtain rfl : j = ts.length := by omega
    rw [hal]
    exact ⟨rfl, rfl⟩
  · replace hb10 : ¬ (ts.length ≤ j) := mt (nI_leI (a := ts.length) (b := j) (by omega) (by omega)).mpr hb10
    refine xw_aload_n (pc := 13) dX7_bars_13 1 rfl ?_
    refine xw_getS (b := tl) (pc := 14) fd_X7_20 dX7_bars_14 (by first | assumption | (simp [xE_setI, xsz_setI, xsl_setI, xtag_setI, xown_setI, xlen_setI, xE_setR, xsz_setR, xsl_setR, xtag_setR, xown_setR, xlen_setR, xE_setW, xsz_setW, xsl_setW, xtag_setW, xown_setW, xlen_setW, xi_setR, xi_setW, xr_setI, xr_setW, xww_setI, xww_setR, xi_setI, xr_setR, xww_setW, xE_new, xsz_new, xsl_new, htx, htl, xsub]; done) | (simp [xE_setI, xsz_setI, xsl_setI, xtag_setI, xown_setI, xlen_setI, xE_setR, xsz_setR, xsl_setR, xtag_setR, xown_setR, xlen_setR, xE_setW, xsz_setW, xsl_setW, xtag_setW, xown_setW, xlen_setW, xi_setR, xi_setW, xr_setI, xr_setW, xww_setI, xww_setR, xi_setI, xr_setR, xww_setW, xE_new, xsz_new, xsl_new, htx, htl] <;> rfl)) (by simp [xE_setI, xsz_setI, xsl_setI, xtag_setI, xown_setI, xlen_setI, xE_setR, xsz_setR, xsl_setR, xtag_setR, xown_setR, xlen_setR, xE_setW, xsz_setW, xsl_setW, xtag_setW, xown_setW, xlen_setW, xi_setR, xi_setW, xr_setI, xr_setW, xww_setI, xww_setR, xi_setI, xr_setR, xww_setW, xE_new, xsz_new, xsl_new, htx, htl]) ?_
    refine xw_iload_n (pc := 17) dX7_bars_17 0 rfl ?_
    refine xw_callV (pc := 18) (xr_V (as := [_]) ok_J2_get rfl (by decide) q798 q706 q707 (by rw [htl8]; rfl) (by rw [htl8]; rfl) dX7_bars_18 rfl rfl (Nat.le_of_ble_eq_true rfl)) (SP_J2_get hL j (by omega)) ?_
    refine xw_chkT (pc := 21) dX7_bars_21 q799 (by have := hT j (by omega); omega) (by have := hT j (by omega); omega) ?_
    refine xw_iload_n (pc := 24) dX7_bars_24 2 rfl ?_
    refine xw_iload_n (pc := 25) dX7_bars_25 3 rfl ?_
    refine xw_tbars (pc := 26) (hT j (by omega)).1 (hT j (by omega)).2 dX7_bars_26 q1438 (Nat.le_of_ble_eq_true rfl) ?_
    refine xw_if_eq (pc := 29) 34 dX7_bars_29 rfl (fun hb29 => ?_) (fun hb29 => ?_)
    · replace hb29 := bI_0.mp hb29
      refine xw_iinc (v := nI (j + 1)) (l' := [(3, _), (0, _), (1, _), (2, _)]) (pc := 34) dX7_bars_34 0 rfl (nI_add _ 1) (by decide) rfl ?_
      refine xw_goto (pc := 37) 2 dX7_bars_37 rfl ?_
      exact ih (j + 1) (by omega) (by omega) (by rw [anyK, hal, hb29]; rfl)
    · replace hb29 := bI_n0.mp hb29
      refine xw_iconst (v := nI 1) (pc := 32) dX7_bars_32 rfl ?_
      refine xw_iret (pc := 33) .boolean dX7_bars_33 rfl ?_ 
      rw [anyT _ j _ (by omega) hb29]
      exact ⟨rfl, rfl⟩
theorem SP_X7_bars {d : Nat} {g : xG} {a o tl arr : Nat} {ts : List Nat} (ht : xtag g a = 6 ∨ xtag g a = 7) (htl : xr g a 6 = some tl) (hL : xAL g o tl arr ts) (hT : xTs g ts) (f v : Int32) : XM M_X7_bars (d + 3) [.ref a, .int f, .int v] g (xOne (some (.int (bI (anyK (fun j => tbar g (ts.getD j 0) f v) ts.length)))) g) := by
  refine xm_of (by decide +kernel) (Nat.le_of_ble_eq_true rfl) ?_
  show XW _ _ 0 [(0, _), (1, _), (2, _)] [] _ _
  refine xw_iconst (v := nI 0) (pc := 0) dX7_bars_0 rfl ?_
  refine xw_istore_n (l' := [(3, _), (0, _), (1, _), (2, _)]) (pc := 1) dX7_bars_1 rfl (by decide) rfl ?_
  exact lp_X7_bars ht htl hL hT f v (ts.length + 1) 0 (by omega) (Nat.zero_le _) rfl
