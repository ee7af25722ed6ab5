/-! CLASS 5: rules; covers -/
set_option maxRecDepth 100000
/-- the object a of the rule r -/
def xRu (g : xG) (s : Nat → Int32) (r a o tl arr : Nat) (ts : List Nat) : Prop := (xtag g a = 6 ∨ xtag g a = 7) ∧ xi g a 0 = nI r ∧ xi g a 1 = s (23 + 20 * r + 1) ∧ xi g a 2 = s (23 + 20 * r + 2) ∧ xi g a 3 = s (23 + 20 * r + 3) ∧ xi g a 4 = s (23 + 20 * r + 4) ∧ xi g a 5 = s (23 + 20 * r + 6) ∧ xr g a 6 = some tl ∧ xAL g o tl arr ts ∧ xTst g s r ts ∧ rOf g a = s (23 + 20 * r + 5) ∧ rDep g a = nI (rdep s r) ∧ rEff g a = effO g (s (23 + 20 * r + 0))
theorem xRu_x {g : xG} {s : Nat → Int32} {r a o tl arr : Nat} {ts : List Nat} (h : xRu g s r a o tl arr ts) : xsub 90 (xtag g a) = true := by rcases h.1 with h | h <;> rw [h] <;> rfl
theorem SP_X7_isOn {d : Nat} {g : xG} {s : Nat → Int32} {r a o tl arr : Nat} {ts : List Nat} (hR : xRu g s r a o tl arr ts) {day : Int32} : XM M_X7_isOn (d + 1) [.ref a, .int day] g (xOne (some (.int (bI (inR day (s (23 + 20 * r + 3)) (s (23 + 20 * r + 4)))))) g) := by
  have htx := xRu_x hR
  obtain ⟨r1, r2, r3, r4, r5, r6, r7, r8, r9, r10, r11, r12, r13⟩ := hR
  refine xm_of (by decide +kernel) (Nat.le_of_ble_eq_true rfl) ?_
  show XW _ _ 0 [(0, _), (1, _)] [] _ _
  refine xw_iload_n (pc := 0) dX7_isOn_0 1 rfl ?_
  refine xw_aload_n (pc := 1) dX7_isOn_1 0 rfl ?_
  refine xw_getI (pc := 2) fd_X7_33 dX7_isOn_2 (by first | assumption | (simp [xE_setI, xsz_setI, xsl_setI, xtag_setI, xown_setI, xlen_setI, xE_setR, xsz_setR, xsl_setR, xtag_setR, xown_setR, xlen_setR, xE_setW, xsz_setW, xsl_setW, xtag_setW, xown_setW, xlen_setW, xi_setR, xi_setW, xr_setI, xr_setW, xww_setI, xww_setR, xi_setI, xr_setR, xww_setW, xE_new, xsz_new, xsl_new, htx, xsub]; done) | (simp [xE_setI, xsz_setI, xsl_setI, xtag_setI, xown_setI, xlen_setI, xE_setR, xsz_setR, xsl_setR, xtag_setR, xown_setR, xlen_setR, xE_setW, xsz_setW, xsl_setW, xtag_setW, xown_setW, xlen_setW, xi_setR, xi_setW, xr_setI, xr_setW, xww_setI, xww_setR, xi_setI, xr_setR, xww_setW, xE_new, xsz_new, xsl_new, htx] <;> rfl)) ?_
  refine xw_aload_n (pc := 5) dX7_isOn_5 0 rfl ?_
  refine xw_getI (pc := 6) fd_X7_36 dX7_isOn_6 (by first | assumption | (simp [xE_setI, xsz_setI, xsl_setI, xtag_setI, xown_setI, xlen_setI, xE_setR, xsz_setR, xsl_setR, xtag_setR, xown_setR, xlen_setR, xE_setW, xsz_setW, xsl_setW, xtag_setW, xown_setW, xlen_setW, xi_setR, xi_setW, xr_setI, xr_setW, xww_setI, xww_setR, xi_setI, xr_setR, xww_setW, xE_new, xsz_new, xsl_new, htx, xsub]; done) | (simp [xE_setI, xsz_setI, xsl_setI, xtag_setI, xown_setI, xlen_setI, xE_setR, xsz_setR, xsl_setR, xtag_setR, xown_setR, xlen_setR, xE_setW, xsz_setW, xsl_setW, xtag_setW, xown_setW, xlen_setW, xi_setR, xi_setW, xr_setI, xr_setW, xww_setI, xww_setR, xi_setI, xr_setR, xww_setW, xE_new, xsz_new, xsl_new, htx] <;> rfl)) ?_
  refine xw_callV (pc := 9) (xr_SN (as := [_, _, _]) ok_X1_isIn rfl (by decide) q783 q784 dX7_isOn_9 rfl rfl (Nat.le_of_ble_eq_true rfl)) (SP_X1_isIn) ?_
  refine xw_iret (pc := 12) .boolean dX7_isOn_12 rfl ?_ (by first | rfl | (cases ‹Bool› <;> rfl) | exact xnB _)
  rw [r5, r6]
  exact ⟨rfl, rfl⟩

theorem xw_isOn {M : xM} {d pc : Nat} {l : List (Nat × Value)} {rest : List Value} {g : xG} {Q : Option Value ⊕ Nat → xG → Prop} {idx b : Nat} {p1 : Value} {v : Value} (hb : xtag g b = 6 ∨ xtag g b = 7) (hc : XM M_X7_isOn d (.ref b :: [p1]) g (xOne (some v) g)) (hd : decode M.2.1 pc = .ok (.invokevirtual idx, 3)) (hl : Cond.methodLink M.1.cls idx ⟨"PolicyNotation$Rule", "isOn", "(I)Z"⟩ ∈ lw_all) (hr : (rest.map fun v => v.category).sum ≤ 8) (k : XW M (d + 1) (pc + 3) l (v :: rest) g Q) : XW M (d + 1) pc l (p1 :: .ref b :: rest) g Q := by
  rcases hb with h | h
  · exact xw_callV (xr_U (x := ⟨"PolicyNotation$Rule", "isOn", "(I)Z"⟩) (as := [p1]) ok_X7_isOn rfl (by decide) hl q779 (Or.inr ⟨_, _, _, q778, q782⟩) ⟨by decide, by decide, by decide +kernel⟩ q778 (by rw [h]; rfl) (by rw [h]; exact q780) hd rfl rfl hr) hc k
  · exact xw_callV (xr_U (x := ⟨"PolicyNotation$Rule", "isOn", "(I)Z"⟩) (as := [p1]) ok_X7_isOn rfl (by decide) hl q779 (Or.inr ⟨_, _, _, q778, q782⟩) ⟨by decide, by decide, by decide +kernel⟩ q778 (by rw [h]; rfl) (by rw [h]; exact q781) hd rfl rfl hr) hc k
theorem xw_rfits {M : xM} {d pc : Nat} {l : List (Nat × Value)} {rest : List Value} {g : xG} {Q : Option Value ⊕ Nat → xG → Prop} {idx b : Nat} {p1 : Value} {v : Value} (hb : xtag g b = 6 ∨ xtag g b = 7) (hc : XM M_X7_fits d (.ref b :: [p1]) g (xOne (some v) g)) (hd : decode M.2.1 pc = .ok (.invokevirtual idx, 3)) (hl : Cond.methodLink M.1.cls idx ⟨"PolicyNotation$Rule", "fits", "([I)Z"⟩ ∈ lw_all) (hr : (rest.map fun v => v.category).sum ≤ 8) (k : XW M (d + 1) (pc + 3) l (v :: rest) g Q) : XW M (d + 1) pc l (p1 :: .ref b :: rest) g Q := by
  rcases hb with h | h
  · exact xw_callV (xr_U (x := ⟨"PolicyNotation$Rule", "fits", "([I)Z"⟩) (as := [p1]) ok_X7_fits rfl (by decide) hl q793 (Or.inr ⟨_, _, _, q792, q796⟩) ⟨by decide, by decide, by decide +kernel⟩ q792 (by rw [h]; rfl) (by rw [h]; exact q794) hd rfl rfl hr) hc k
  · exact xw_callV (xr_U (x := ⟨"PolicyNotation$Rule", "fits", "([I)Z"⟩) (as := [p1]) ok_X7_fits rfl (by decide) hl q793 (Or.inr ⟨_, _, _, q792, q796⟩) ⟨by decide, by decide, by decide +kernel⟩ q792 (by rw [h]; rfl) (by rw [h]; exact q795) hd rfl rfl hr) hc k
theorem xw_isAhead {M : xM} {d pc : Nat} {l : List (Nat × Value)} {rest : List Value} {g : xG} {Q : Option Value ⊕ Nat → xG → Prop} {idx b : Nat} {p1 : Value} {v : Value} (hb : xtag g b = 6 ∨ xtag g b = 7) (hc : XM M_X7_isAhead d (.ref b :: [p1]) g (xOne (some v) g)) (hd : decode M.2.1 pc = .ok (.invokevirtual idx, 3)) (hl : Cond.methodLink M.1.cls idx ⟨"PolicyNotation$Rule", "isAhead", "(LPolicyNotation$Rule;)Z"⟩ ∈ lw_all) (hr : (rest.map fun v => v.category).sum ≤ 8) (k : XW M (d + 1) (pc + 3) l (v :: rest) g Q) : XW M (d + 1) pc l (p1 :: .ref b :: rest) g Q := by
  rcases hb with h | h
  · exact xw_callV (xr_U (x := ⟨"PolicyNotation$Rule", "isAhead", "(LPolicyNotation$Rule;)Z"⟩) (as := [p1]) ok_X7_isAhead rfl (by decide) hl q886 (Or.inr ⟨_, _, _, q885, q889⟩) ⟨by decide, by decide, by decide +kernel⟩ q885 (by rw [h]; rfl) (by rw [h]; exact q887) hd rfl rfl hr) hc k
  · exact xw_callV (xr_U (x := ⟨"PolicyNotation$Rule", "isAhead", "(LPolicyNotation$Rule;)Z"⟩) (as := [p1]) ok_X7_isAhead rfl (by decide) hl q886 (Or.inr ⟨_, _, _, q885, q889⟩) ⟨by decide, by decide, by decide +kernel⟩ q885 (by rw [h]; rfl) (by rw [h]; exact q888) hd rfl rfl hr) hc k
/-- the look lk: its arrays, the case that it was laid for: scope k, day, digits, barred rule -/
def xLook (g : xG) (lk fa ka la sc : Nat) (feats day wo : Int32) : Prop := xtag g lk = 4 ∧ xr g lk 0 = some fa ∧ xr g lk 1 = some ka ∧ xr g lk 5 = some la ∧ xr g lk 2 = some sc ∧ xi g lk 3 = day ∧ xi g lk 4 = wo ∧ xtag g fa = 101 ∧ xlen g fa = 6 ∧ xtag g ka = 101 ∧ xlen g ka = 16 ∧ xtag g la = 101 ∧ xlen g la = 5 ∧ ∀ f, f < 6 → xi g fa f = dig feats f
theorem SP_X5_covers {d : Nat} {g : xG} {s : Nat → Int32} {r a o tl arr lk fa ka la k n rr : Nat} {ts : List Nat} {cs : Nat → Nat} {feats day wo : Int32} (hR : xRu g s r a o tl arr ts) (hK : xLook g lk fa ka la (cs k) feats day wo) (hS : xSc g s n cs) (hW : WFo s n) (hn : n ≤ 10) (hk : k < n) (hrr : r < rr) (hWr : WFr s n rr) : XM M_X5_covers (d + 12) [.ref lk, .ref a] g (xOne (some (.int (bI (cov s wo k day feats r)))) g) := by
  have hR0 := hR
  have htx := xRu_x hR
  obtain ⟨r1, r2, r3, r4, r5, r6, r7, r8, r9, r10, r11, r12, r13⟩ := hR
  obtain ⟨k1, k2, k3, k4, k5, k6, k7, k8, k9, k10, k11, k12, k13, k14⟩ := hK
  obtain ⟨⟨w1, w2⟩, ⟨w3, w4⟩, w5⟩ := hWr r hrr
  have hlen := r10.1
  have tsc := (hS k hk).1
  have hfit := SP_X7_fits (d := d + 8) (feats := feats) r1 r8 r9 r10 k8 k9 k14 (fun j hj => (w5 j (by omega)).1)
  rw [hlen] at hfit
  have hon := SP_X7_isOn (d := d + 10) (day := day) hR0
  have hwi := SP_X3_isWithin hS hW hn (aN s (23 + 20 * r + 1)) (by omega) k hk (d + 11) (by omega)
  refine xm_of (by decide +kernel) (Nat.le_of_ble_eq_true rfl) ?_
  show XW _ _ 0 [(0, _), (1, _)] [] _ _
  refine xw_aload_n (pc := 0) dX5_covers_0 1 rfl ?_
  refine xw_getNat (k := r) (pc := 1) fd_X5_68 dX5_covers_1 (by first | assumption | (simp [xE_setI, xsz_setI, xsl_setI, xtag_setI, xown_setI, xlen_setI, xE_setR, xsz_setR, xsl_setR, xtag_setR, xown_setR, xlen_setR, xE_setW, xsz_setW, xsl_setW, xtag_setW, xown_setW, xlen_setW, xi_setR, xi_setW, xr_setI, xr_setW, xww_setI, xww_setR, xi_setI, xr_setR, xww_setW, xE_new, xsz_new, xsl_new, htx, k1, k2, k5, k7, k6, r2, xsub]; done) | (simp [xE_setI, xsz_setI, xsl_setI, xtag_setI, xown_setI, xlen_setI, xE_setR, xsz_setR, xsl_setR, xtag_setR, xown_setR, xlen_setR, xE_setW, xsz_setW, xsl_setW, xtag_setW, xown_setW, xlen_setW, xi_setR, xi_setW, xr_setI, xr_setW, xww_setI, xww_setR, xi_setI, xr_setR, xww_setW, xE_new, xsz_new, xsl_new, htx, k1, k2, k5, k7, k6, r2] <;> rfl)) (by simp [xE_setI, xsz_setI, xsl_setI, xtag_setI, xown_setI, xlen_setI, xE_setR, xsz_setR, xsl_setR, xtag_setR, xown_setR, xlen_setR, xE_setW, xsz_setW, xsl_setW, xtag_setW, xown_setW, xlen_setW, xi_setR, xi_setW, xr_setI, xr_setW, xww_setI, xww_setR, xi_setI, xr_setR, xww_setW, xE_new, xsz_new, xsl_new, htx, k1, k2, k5, k7, k6, r2]) ?_
  refine xw_aload_n (pc := 4) dX5_covers_4 0 rfl ?_
  refine xw_getI (pc := 5) fd_X5_51 dX5_covers_5 (by first | assumption | (simp [xE_setI, xsz_setI, xsl_setI, xtag_setI, xown_setI, xlen_setI, xE_setR, xsz_setR, xsl_setR, xtag_setR, xown_setR, xlen_setR, xE_setW, xsz_setW, xsl_setW, xtag_setW, xown_setW, xlen_setW, xi_setR, xi_setW, xr_setI, xr_setW, xww_setI, xww_setR, xi_setI, xr_setR, xww_setW, xE_new, xsz_new, xsl_new, htx, k1, k2, k5, k7, k6, r2, xsub]; done) | (simp [xE_setI, xsz_setI, xsl_setI, xtag_setI, xown_setI, xlen_setI, xE_setR, xsz_setR, xsl_setR, xtag_setR, xown_setR, xlen_setR, xE_setW, xsz_setW, xsl_setW, xtag_setW, xown_setW, xlen_setW, xi_setR, xi_setW, xr_setI, xr_setW, xww_setI, xww_setR, xi_setI, xr_setR, xww_setW, xE_new, xsz_new, xsl_new, htx, k1, k2, k5, k7, k6, r2] <;> rfl)) ?_
  rw [k7]
  refine xw_icmp_eq (pc := 8) 51 dX5_covers_8 rfl (fun hb8 => ?_) (fun hb8 => ?_)
  · refine xw_iconst (v := nI 0) (pc := 51) dX5_covers_51 rfl ?_
    refine xw_iret (pc := 52) .boolean dX5_covers_52 rfl ?_ 
    refine ⟨congrArg (fun x => Sum.inl (some (Value.int x))) ?_, rfl⟩
    first | (change bI true = _; simp_all [cov, cvB]; done) | (change bI false = _; simp_all [cov, cvB]; done) | (change bI false = _; simp [cov, cvB, *]; done)
  · refine xw_aload_n (pc := 11) dX5_covers_11 1 rfl ?_
    refine xw_aload_n (pc := 12) dX5_covers_12 0 rfl ?_
    refine xw_getI (pc := 13) fd_X5_47 dX5_covers_13 (by first | assumption | (simp [xE_setI, xsz_setI, xsl_setI, xtag_setI, xown_setI, xlen_setI, xE_setR, xsz_setR, xsl_setR, xtag_setR, xown_setR, xlen_setR, xE_setW, xsz_setW, xsl_setW, xtag_setW, xown_setW, xlen_setW, xi_setR, xi_setW, xr_setI, xr_setW, xww_setI, xww_setR, xi_setI, xr_setR, xww_setW, xE_new, xsz_new, xsl_new, htx, k1, k2, k5, k7, k6, r2, xsub]; done) | (simp [xE_setI, xsz_setI, xsl_setI, xtag_setI, xown_setI, xlen_setI, xE_setR, xsz_setR, xsl_setR, xtag_setR, xown_setR, xlen_setR, xE_setW, xsz_setW, xsl_setW, xtag_setW, xown_setW, xlen_setW, xi_setR, xi_setW, xr_setI, xr_setW, xww_setI, xww_setR, xi_setI, xr_setR, xww_setW, xE_new, xsz_new, xsl_new, htx, k1, k2, k5, k7, k6, r2] <;> rfl)) ?_
    rw [k6]
    refine xw_isOn (pc := 16) r1 hon dX5_covers_16 q777 (Nat.le_of_ble_eq_true rfl) ?_
    refine xw_if_eq (pc := 19) 51 dX5_covers_19 rfl (fun hb19 => ?_) (fun hb19 => ?_)
    · replace hb19 := bI_0.mp hb19
      refine xw_iconst (v := nI 0) (pc := 51) dX5_covers_51 rfl ?_
      refine xw_iret (pc := 52) .boolean dX5_covers_52 rfl ?_ 
      refine ⟨congrArg (fun x => Sum.inl (some (Value.int x))) ?_, rfl⟩
      first | (change bI true = _; simp_all [cov, cvB]; done) | (change bI false = _; simp_all [cov, cvB]; done) | (change bI false = _; simp [cov, cvB, *]; done)
    · replace hb19 := bI_n0.mp hb19
      refine xw_aload_n (pc := 22) dX5_covers_22 0 rfl ?_
      refine xw_getS (b := (cs k)) (pc := 23) fd_X5_43 dX5_covers_23 (by first | assumption | (simp [xE_setI, xsz_setI, xsl_setI, xtag_setI, xown_setI, xlen_setI, xE_setR, xsz_setR, xsl_setR, xtag_setR, xown_setR, xlen_setR, xE_setW, xsz_setW, xsl_setW, xtag_setW, xown_setW, xlen_setW, xi_setR, xi_setW, xr_setI, xr_setW, xww_setI, xww_setR, xi_setI, xr_setR, xww_setW, xE_new, xsz_new, xsl_new, htx, k1, k2, k5, k7, k6, r2, xsub]; done) | (simp [xE_setI, xsz_setI, xsl_setI, xtag_setI, xown_setI, xlen_setI, xE_setR, xsz_setR, xsl_setR, xtag_setR, xown_setR, xlen_setR, xE_setW, xsz_setW, xsl_setW, xtag_setW, xown_setW, xlen_setW, xi_setR, xi_setW, xr_setI, xr_setW, xww_setI, xww_setR, xi_setI, xr_setR, xww_setW, xE_new, xsz_new, xsl_new, htx, k1, k2, k5, k7, k6, r2] <;> rfl)) (by simp [xE_setI, xsz_setI, xsl_setI, xtag_setI, xown_setI, xlen_setI, xE_setR, xsz_setR, xsl_setR, xtag_setR, xown_setR, xlen_setR, xE_setW, xsz_setW, xsl_setW, xtag_setW, xown_setW, xlen_setW, xi_setR, xi_setW, xr_setI, xr_setW, xww_setI, xww_setR, xi_setI, xr_setR, xww_setW, xE_new, xsz_new, xsl_new, htx, k1, k2, k5, k7, k6, r2]) ?_
      refine xw_aload_n (pc := 26) dX5_covers_26 1 rfl ?_
      refine xw_getI (pc := 27) fd_X5_77 dX5_covers_27 (by first | assumption | (simp [xE_setI, xsz_setI, xsl_setI, xtag_setI, xown_setI, xlen_setI, xE_setR, xsz_setR, xsl_setR, xtag_setR, xown_setR, xlen_setR, xE_setW, xsz_setW, xsl_setW, xtag_setW, xown_setW, xlen_setW, xi_setR, xi_setW, xr_setI, xr_setW, xww_setI, xww_setR, xi_setI, xr_setR, xww_setW, xE_new, xsz_new, xsl_new, htx, k1, k2, k5, k7, k6, r2, xsub]; done) | (simp [xE_setI, xsz_setI, xsl_setI, xtag_setI, xown_setI, xlen_setI, xE_setR, xsz_setR, xsl_setR, xtag_setR, xown_setR, xlen_setR, xE_setW, xsz_setW, xsl_setW, xtag_setW, xown_setW, xlen_setW, xi_setR, xi_setW, xr_setI, xr_setW, xww_setI, xww_setR, xi_setI, xr_setR, xww_setW, xE_new, xsz_new, xsl_new, htx, k1, k2, k5, k7, k6, r2] <;> rfl)) ?_
      rw [r3, w1]
      refine xw_callV (pc := 30) (xr_V (as := [_]) ok_X3_isWithin rfl (by decide) q786 q787 q788 (by rw [tsc]; rfl) (by rw [tsc]; rfl) dX5_covers_30 rfl rfl (Nat.le_of_ble_eq_true rfl)) (hwi) ?_
      refine xw_if_eq (pc := 33) 51 dX5_covers_33 rfl (fun hb33 => ?_) (fun hb33 => ?_)
      · replace hb33 := bI_0.mp hb33
        refine xw_iconst (v := nI 0) (pc := 51) dX5_covers_51 rfl ?_
        refine xw_iret (pc := 52) .boolean dX5_covers_52 rfl ?_ 
        refine ⟨congrArg (fun x => Sum.inl (some (Value.int x))) ?_, rfl⟩
        first | (change bI true = _; simp_all [cov, cvB]; done) | (change bI false = _; simp_all [cov, cvB]; done) | (change bI false = _; simp [cov, cvB, *]; done)
      · replace hb33 := bI_n0.mp hb33
        refine xw_aload_n (pc := 36) dX5_covers_36 1 rfl ?_
        refine xw_aload_n (pc := 37) dX5_covers_37 0 rfl ?_
        refine xw_getS (b := fa) (pc := 38) fd_X5_15 dX5_covers_38 (by first | assumption | (simp [xE_setI, xsz_setI, xsl_setI, xtag_setI, xown_setI, xlen_setI, xE_setR, xsz_setR, xsl_setR, xtag_setR, xown_setR, xlen_setR, xE_setW, xsz_setW, xsl_setW, xtag_setW, xown_setW, xlen_setW, xi_setR, xi_setW, xr_setI, xr_setW, xww_setI, xww_setR, xi_setI, xr_setR, xww_setW, xE_new, xsz_new, xsl_new, htx, k1, k2, k5, k7, k6, r2, xsub]; done) | (simp [xE_setI, xsz_setI, xsl_setI, xtag_setI, xown_setI, xlen_setI, xE_setR, xsz_setR, xsl_setR, xtag_setR, xown_setR, xlen_setR, xE_setW, xsz_setW, xsl_setW, xtag_setW, xown_setW, xlen_setW, xi_setR, xi_setW, xr_setI, xr_setW, xww_setI, xww_setR, xi_setI, xr_setR, xww_setW, xE_new, xsz_new, xsl_new, htx, k1, k2, k5, k7, k6, r2] <;> rfl)) (by simp [xE_setI, xsz_setI, xsl_setI, xtag_setI, xown_setI, xlen_setI, xE_setR, xsz_setR, xsl_setR, xtag_setR, xown_setR, xlen_setR, xE_setW, xsz_setW, xsl_setW, xtag_setW, xown_setW, xlen_setW, xi_setR, xi_setW, xr_setI, xr_setW, xww_setI, xww_setR, xi_setI, xr_setR, xww_setW, xE_new, xsz_new, xsl_new, htx, k1, k2, k5, k7, k6, r2]) ?_
        refine xw_rfits (pc := 41) r1 hfit dX5_covers_41 q791 (Nat.le_of_ble_eq_true rfl) ?_
        refine xw_if_eq (pc := 44) 51 dX5_covers_44 rfl (fun hb44 => ?_) (fun hb44 => ?_)
        · replace hb44 := bI_0.mp hb44
          refine xw_iconst (v := nI 0) (pc := 51) dX5_covers_51 rfl ?_
          refine xw_iret (pc := 52) .boolean dX5_covers_52 rfl ?_ 
          refine ⟨congrArg (fun x => Sum.inl (some (Value.int x))) ?_, rfl⟩
          first | (change bI true = _; simp_all [cov, cvB]; done) | (change bI false = _; simp_all [cov, cvB]; done) | (change bI false = _; simp [cov, cvB, *]; done)
        · replace hb44 := bI_n0.mp hb44
          refine xw_iconst (v := nI 1) (pc := 47) dX5_covers_47 rfl ?_
          refine xw_goto (pc := 48) 52 dX5_covers_48 rfl ?_
          refine xw_iret (pc := 52) .boolean dX5_covers_52 rfl ?_ 
          refine ⟨congrArg (fun x => Sum.inl (some (Value.int x))) ?_, rfl⟩
          first | (change bI true = _; simp_all [cov, cvB]; done) | (change bI false = _; simp_all [cov, cvB]; done) | (change bI false = _; simp [cov, cvB, *]; done)

