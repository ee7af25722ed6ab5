/-! JDK 13: a StringBuilder made, a String of it; a String's chars -/
set_option maxRecDepth 100000
theorem SP_J7_ensureK_0 {d : Nat} {g : xG} {k : Nat} {o b v n : Nat} {ch : Nat → Nat} (hS : xBL g o b v n ch) (hk : k ≤ xlen g v) : XM M_J7_ensureCapacityInternal (d + 4) [.ref b, .int (nI k)] g (xVoid (fun g' => ∃ v', v' = v ∧ xBL g' o b v' n ch ∧ k ≤ xlen g' v' ∧ xFr (oEq o) 0 g g')) := by
  refine (SP_J7_ensureN_0 (d := d) hS.1.1 hS.1.2.2.1 hS.1.2.2.2.2.1 hS.2.1 hS.2.2.2.1 hk).mono (fun rs g' h _ => ?_)
  obtain ⟨rfl, rfl⟩ := h
  exact ⟨rfl, v, rfl, hS, hk, xFr.rf⟩

theorem SP_J7_appendK {d : Nat} {g : xG} {o b v n : Nat} {ch : Nat → Nat} (hS : xBL g o b v n ch) (ho : o ≠ 0) {s sv k : Nat} {cs : Nat → Nat} (hT : xStr g s sv k cs) (n1 : xown g s ≠ o) (n2 : xown g sv ≠ o) (hl : n + k ≤ xlen g v) : XM M_J7_append (d + 5) [.ref b, .ref s] g (xVal (.ref b) (fun g' => xBL g' o b v (n + k) (chA ch n cs) ∧ xFr (oEq o) 0 g g')) := by
  have hS0 := hS
  obtain ⟨⟨s1, s2, s3, s7, s5, s6⟩, s4, s8, s9, s10⟩ := hS
  have hT0 := hT
  obtain ⟨q1, q2, q3, q4, q5, q6⟩ := hT
  have hk8 : k < 2 ^ 31 := by have := hS0.2.2.2.1; omega
  refine xm_of (by decide +kernel) (Nat.le_of_ble_eq_true rfl) ?_
  show XW _ _ 0 [(0, _), (1, _)] [] _ _
  refine xw_aload_n (pc := 0) dJ7_append_0 1 rfl ?_
  refine xw_ifnonnull (pc := 1) 9 dJ7_append_1 rfl ?_
  refine xw_aload_n (pc := 9) dJ7_append_9 1 rfl ?_
  refine xw_callV (pc := 10) (xr_V (as := []) ok_J9_length rfl (by decide) q331 q332 q333 (by rw [q1]; rfl) (by rw [q1]; rfl) dJ7_append_10 rfl rfl (Nat.le_of_ble_eq_true rfl)) (SP_J9_length hT0 (by omega)) ?_
  refine xw_istore_n (l' := [(2, _), (0, _), (1, _)]) (pc := 13) dJ7_append_13 rfl (by decide) rfl ?_
  refine xw_aload_n (pc := 14) dJ7_append_14 1 rfl ?_
  refine xw_aload_n (pc := 15) dJ7_append_15 1 rfl ?_
  refine xw_getNat (k := n) (pc := 16) fd_J7_79 dJ7_append_16 (by first | assumption | (simp [-List.getD_eq_getElem?_getD, xE_setI, xsz_setI, xsl_setI, xtag_setI, xown_setI, xlen_setI, xE_setR, xsz_setR, xsl_setR, xtag_setR, xown_setR, xlen_setR, xE_setW, xsz_setW, xsl_setW, xtag_setW, xown_setW, xlen_setW, xi_setR, xi_setW, xr_setI, xr_setW, xww_setI, xww_setR, xi_setI, xr_setR, xww_setW, xE_new, xsz_new, xsl_new, s1, s7, xsub]; done) | (simp [-List.getD_eq_getElem?_getD, xE_setI, xsz_setI, xsl_setI, xtag_setI, xown_setI, xlen_setI, xE_setR, xsz_setR, xsl_setR, xtag_setR, xown_setR, xlen_setR, xE_setW, xsz_setW, xsl_setW, xtag_setW, xown_setW, xlen_setW, xi_setR, xi_setW, xr_setI, xr_setW, xww_setI, xww_setR, xi_setI, xr_setR, xww_setW, xE_new, xsz_new, xsl_new, s1, s7] <;> rfl)) (by simp [-List.getD_eq_getElem?_getD, xE_setI, xsz_setI, xsl_setI, xtag_setI, xown_setI, xlen_setI, xE_setR, xsz_setR, xsl_setR, xtag_setR, xown_setR, xlen_setR, xE_setW, xsz_setW, xsl_setW, xtag_setW, xown_setW, xlen_setW, xi_setR, xi_setW, xr_setI, xr_setW, xww_setI, xww_setR, xi_setI, xr_setR, xww_setW, xE_new, xsz_new, xsl_new, s1, s7]) ?_
  refine xw_iload_n (pc := 19) dJ7_append_19 0 rfl ?_
  refine xn_iadd (pc := 20) dJ7_append_20 ?_
  refine xw_callH (pc := 21) (xr_UP (as := [_]) ok_J7_ensureCapacityInternal rfl (by decide) q265 q2767 q268 q267 (by rw [s1]; rfl) (by rw [s1]; exact q221) q266 dJ7_append_21 rfl rfl (Nat.le_of_ble_eq_true rfl)) (SP_J7_ensureK_0 (d := d) hS0 hl) ?_
  intro g21 hc21 hm21
  obtain ⟨v21, ev21, hB21, hl21, hF21⟩ := hc21
  have hB210 := hB21
  have hT21 := hT0.fr hF21 n1 n2
  obtain ⟨⟨t1, t2, t3, t7, t5, t6⟩, t4, t8, t9, t10⟩ := hB21
  have t2n : xown g21 b ≠ 0 := by rw [t2]; exact ho
  have eb : xc (xPut g21 v21 (xcI (xc g21 v21) (va_cpy (xi g21 sv) (xi g21 v21) 0 n k))) b = xc g21 b := xc_putN hB210.1.ne
  have eb1 : xtag (xPut g21 v21 (xcI (xc g21 v21) (va_cpy (xi g21 sv) (xi g21 v21) 0 n k))) b = 19 := (congrArg (fun z : xCell => z.1) eb).trans t1
  have eb2 : xown (xPut g21 v21 (xcI (xc g21 v21) (va_cpy (xi g21 sv) (xi g21 v21) 0 n k))) b ≠ 0 := by rw [show xown (xPut g21 v21 (xcI (xc g21 v21) (va_cpy (xi g21 sv) (xi g21 v21) 0 n k))) b = xown g21 b from congrArg (fun z : xCell => z.2.1) eb]; exact t2n
  have eb3 : xi (xPut g21 v21 (xcI (xc g21 v21) (va_cpy (xi g21 sv) (xi g21 v21) 0 n k))) b 3 = nI n := (xi_of eb _).trans t7
  refine xw_aload_n (pc := 24) dJ7_append_24 1 rfl ?_
  refine xw_aload_n (pc := 25) dJ7_append_25 1 rfl ?_
  refine xw_getNat (k := n) (pc := 26) fd_J7_79 dJ7_append_26 (by first | assumption | (simp [-List.getD_eq_getElem?_getD, xE_setI, xsz_setI, xsl_setI, xtag_setI, xown_setI, xlen_setI, xE_setR, xsz_setR, xsl_setR, xtag_setR, xown_setR, xlen_setR, xE_setW, xsz_setW, xsl_setW, xtag_setW, xown_setW, xlen_setW, xi_setR, xi_setW, xr_setI, xr_setW, xww_setI, xww_setR, xi_setI, xr_setR, xww_setW, xE_new, xsz_new, xsl_new, s1, s7, t1, t7, t2n, eb1, eb2, eb3, xsub]; done) | (simp [-List.getD_eq_getElem?_getD, xE_setI, xsz_setI, xsl_setI, xtag_setI, xown_setI, xlen_setI, xE_setR, xsz_setR, xsl_setR, xtag_setR, xown_setR, xlen_setR, xE_setW, xsz_setW, xsl_setW, xtag_setW, xown_setW, xlen_setW, xi_setR, xi_setW, xr_setI, xr_setW, xww_setI, xww_setR, xi_setI, xr_setR, xww_setW, xE_new, xsz_new, xsl_new, s1, s7, t1, t7, t2n, eb1, eb2, eb3] <;> rfl)) (by simp [-List.getD_eq_getElem?_getD, xE_setI, xsz_setI, xsl_setI, xtag_setI, xown_setI, xlen_setI, xE_setR, xsz_setR, xsl_setR, xtag_setR, xown_setR, xlen_setR, xE_setW, xsz_setW, xsl_setW, xtag_setW, xown_setW, xlen_setW, xi_setR, xi_setW, xr_setI, xr_setW, xww_setI, xww_setR, xi_setI, xr_setR, xww_setW, xE_new, xsz_new, xsl_new, s1, s7, t1, t7, t2n, eb1, eb2, eb3]) ?_
  refine xw_aload_n (pc := 29) dJ7_append_29 2 rfl ?_
  refine xw_callU (pc := 30) (xr_UP (as := [_, _]) ok_J7_putStringAt rfl (by decide) q340 q2769 q343 q342 (by rw [t1]; rfl) (by rw [t1]; exact q221) q341 dJ7_append_30 rfl rfl (Nat.le_of_ble_eq_true rfl)) (SP_J7_putStringAt (d := d + 2) hB210 ho hT21 (by omega)) ?_
  refine xw_aload_n (pc := 33) dJ7_append_33 1 rfl ?_
  refine xw_dup (pc := 34) dJ7_append_34 rfl ?_
  refine xw_getNat (k := n) (pc := 35) fd_J7_79 dJ7_append_35 (by first | assumption | (simp [-List.getD_eq_getElem?_getD, xE_setI, xsz_setI, xsl_setI, xtag_setI, xown_setI, xlen_setI, xE_setR, xsz_setR, xsl_setR, xtag_setR, xown_setR, xlen_setR, xE_setW, xsz_setW, xsl_setW, xtag_setW, xown_setW, xlen_setW, xi_setR, xi_setW, xr_setI, xr_setW, xww_setI, xww_setR, xi_setI, xr_setR, xww_setW, xE_new, xsz_new, xsl_new, s1, s7, t1, t7, t2n, eb1, eb2, eb3, xsub]; done) | (simp [-List.getD_eq_getElem?_getD, xE_setI, xsz_setI, xsl_setI, xtag_setI, xown_setI, xlen_setI, xE_setR, xsz_setR, xsl_setR, xtag_setR, xown_setR, xlen_setR, xE_setW, xsz_setW, xsl_setW, xtag_setW, xown_setW, xlen_setW, xi_setR, xi_setW, xr_setI, xr_setW, xww_setI, xww_setR, xi_setI, xr_setR, xww_setW, xE_new, xsz_new, xsl_new, s1, s7, t1, t7, t2n, eb1, eb2, eb3] <;> rfl)) (by simp [-List.getD_eq_getElem?_getD, xE_setI, xsz_setI, xsl_setI, xtag_setI, xown_setI, xlen_setI, xE_setR, xsz_setR, xsl_setR, xtag_setR, xown_setR, xlen_setR, xE_setW, xsz_setW, xsl_setW, xtag_setW, xown_setW, xlen_setW, xi_setR, xi_setW, xr_setI, xr_setW, xww_setI, xww_setR, xi_setI, xr_setR, xww_setW, xE_new, xsz_new, xsl_new, s1, s7, t1, t7, t2n, eb1, eb2, eb3]) ?_
  refine xw_iload_n (pc := 38) dJ7_append_38 0 rfl ?_
  refine xn_iadd (pc := 39) dJ7_append_39 ?_
  refine xw_putI (pc := 40) fd_J7_79 (xfin_of (by decide) (by decide +kernel)) dJ7_append_40 (by first | assumption | (simp [-List.getD_eq_getElem?_getD, xE_setI, xsz_setI, xsl_setI, xtag_setI, xown_setI, xlen_setI, xE_setR, xsz_setR, xsl_setR, xtag_setR, xown_setR, xlen_setR, xE_setW, xsz_setW, xsl_setW, xtag_setW, xown_setW, xlen_setW, xi_setR, xi_setW, xr_setI, xr_setW, xww_setI, xww_setR, xi_setI, xr_setR, xww_setW, xE_new, xsz_new, xsl_new, s1, s7, t1, t7, t2n, eb1, eb2, eb3, xsub]; done) | (simp [-List.getD_eq_getElem?_getD, xE_setI, xsz_setI, xsl_setI, xtag_setI, xown_setI, xlen_setI, xE_setR, xsz_setR, xsl_setR, xtag_setR, xown_setR, xlen_setR, xE_setW, xsz_setW, xsl_setW, xtag_setW, xown_setW, xlen_setW, xi_setR, xi_setW, xr_setI, xr_setW, xww_setI, xww_setR, xi_setI, xr_setR, xww_setW, xE_new, xsz_new, xsl_new, s1, s7, t1, t7, t2n, eb1, eb2, eb3] <;> rfl)) (by first | assumption | (simp [-List.getD_eq_getElem?_getD, xE_setI, xsz_setI, xsl_setI, xtag_setI, xown_setI, xlen_setI, xE_setR, xsz_setR, xsl_setR, xtag_setR, xown_setR, xlen_setR, xE_setW, xsz_setW, xsl_setW, xtag_setW, xown_setW, xlen_setW, xi_setR, xi_setW, xr_setI, xr_setW, xww_setI, xww_setR, xi_setI, xr_setR, xww_setW, xE_new, xsz_new, xsl_new, s1, s7, t1, t7, t2n, eb1, eb2, eb3]; done) | (simp [-List.getD_eq_getElem?_getD, xE_setI, xsz_setI, xsl_setI, xtag_setI, xown_setI, xlen_setI, xE_setR, xsz_setR, xsl_setR, xtag_setR, xown_setR, xlen_setR, xE_setW, xsz_setW, xsl_setW, xtag_setW, xown_setW, xlen_setW, xi_setR, xi_setW, xr_setI, xr_setW, xww_setI, xww_setR, xi_setI, xr_setR, xww_setW, xE_new, xsz_new, xsl_new, s1, s7, t1, t7, t2n, eb1, eb2, eb3]; assumption)) ?_
  refine xw_aload_n (pc := 43) dJ7_append_43 1 rfl ?_
  refine xw_aret (pc := 44) (.object "java/lang/AbstractStringBuilder") dJ7_append_44 rfl ?_
  refine ⟨rfl, ev21 ▸ hB210.app (by omega) (fun j hj => (q6 j hj).1) (fun j hj => ?_) (fun j hj => ?_), (hF21.put (by rfl) (by rfl) (by rfl) (Or.inr t6)).si (Or.inr (by rw [xown_put (by rfl)]; exact t2))⟩
  · unfold va_cpy
    rw [if_pos ⟨by omega, by omega⟩, show 0 + (n + j - n) = j from by omega]
    exact (hT21.2.2.2.2.2 j hj).2
  · unfold va_cpy
    rw [if_neg (by omega)]

theorem SP_J8_appendK {d : Nat} {g : xG} {o b v n : Nat} {ch : Nat → Nat} (hS : xBL g o b v n ch) (ho : o ≠ 0) {s sv k : Nat} {cs : Nat → Nat} (hT : xStr g s sv k cs) (n1 : xown g s ≠ o) (n2 : xown g sv ≠ o) (hl : n + k ≤ xlen g v) : XM M_J8_append (d + 6) [.ref b, .ref s] g (xVal (.ref b) (fun g' => xBL g' o b v (n + k) (chA ch n cs) ∧ xFr (oEq o) 0 g g')) := by
  refine xm_of (by decide +kernel) (Nat.le_of_ble_eq_true rfl) ?_
  show XW _ _ 0 [(0, _), (1, _)] [] _ _
  refine xw_aload_n (pc := 0) dJ8_append_0 0 rfl ?_
  refine xw_aload_n (pc := 1) dJ8_append_1 1 rfl ?_
  refine xw_callF (pc := 2) (xr_SU (as := [_]) ok_J7_append rfl (by decide) q258 q2765 q251 q259 (by decide) (by exact hS.1.1) dJ8_append_2 rfl rfl (Nat.le_of_ble_eq_true rfl)) (SP_J7_appendK hS ho hT n1 n2 hl) ?_
  intro g2 hc2 hm2
  refine xw_pop (pc := 5) dJ8_append_5 rfl ?_
  refine xw_aload_n (pc := 6) dJ8_append_6 0 rfl ?_
  refine xw_aret (pc := 7) (.object "java/lang/StringBuilder") dJ8_append_7 rfl ?_
  exact ⟨rfl, hc2⟩

theorem SP_J7_append_2KA {d : Nat} {g : xG} {k : Nat} {o b v n : Nat} {ch : Nat → Nat} (hS : xBL g o b v n ch) (ho : o ≠ 0) (hD : xDig g) (hk : k < 10) (hl : n + 2 ≤ xlen g v) : XM M_J7_append_2 (d + 5) [.ref b, .int (nI k)] g (xVal (.ref b) (fun g' => xBL g' o b v (n + 1) (chA ch n (dgC k)) ∧ xFr (oEq o) 0 g g')) := by
  have hS0 := hS
  obtain ⟨⟨s1, s2, s3, s7, s5, s6⟩, s4, s8, s9, s10⟩ := hS
  have hl8 := hS0.2.2.2.1
  refine xm_of (by decide +kernel) (Nat.le_of_ble_eq_true rfl) ?_
  show XW _ _ 0 [(0, _), (1, _)] [] _ _
  refine xw_aload_n (pc := 0) dJ7_append_2_0 0 rfl ?_
  refine xw_getNat (k := n) (pc := 1) fd_J7_79 dJ7_append_2_1 (by first | assumption | (simp [-List.getD_eq_getElem?_getD, xE_setI, xsz_setI, xsl_setI, xtag_setI, xown_setI, xlen_setI, xE_setR, xsz_setR, xsl_setR, xtag_setR, xown_setR, xlen_setR, xE_setW, xsz_setW, xsl_setW, xtag_setW, xown_setW, xlen_setW, xi_setR, xi_setW, xr_setI, xr_setW, xww_setI, xww_setR, xi_setI, xr_setR, xww_setW, xE_new, xsz_new, xsl_new, s1, s7, xsub]; done) | (simp [-List.getD_eq_getElem?_getD, xE_setI, xsz_setI, xsl_setI, xtag_setI, xown_setI, xlen_setI, xE_setR, xsz_setR, xsl_setR, xtag_setR, xown_setR, xlen_setR, xE_setW, xsz_setW, xsl_setW, xtag_setW, xown_setW, xlen_setW, xi_setR, xi_setW, xr_setI, xr_setW, xww_setI, xww_setR, xi_setI, xr_setR, xww_setW, xE_new, xsz_new, xsl_new, s1, s7] <;> rfl)) (by simp [-List.getD_eq_getElem?_getD, xE_setI, xsz_setI, xsl_setI, xtag_setI, xown_setI, xlen_setI, xE_setR, xsz_setR, xsl_setR, xtag_setR, xown_setR, xlen_setR, xE_setW, xsz_setW, xsl_setW, xtag_setW, xown_setW, xlen_setW, xi_setR, xi_setW, xr_setI, xr_setW, xww_setI, xww_setR, xi_setI, xr_setR, xww_setW, xE_new, xsz_new, xsl_new, s1, s7]) ?_
  refine xw_istore_n (l' := [(2, _), (0, _), (1, _)]) (pc := 4) dJ7_append_2_4 rfl (by decide) rfl ?_
  refine xw_iload_n (pc := 5) dJ7_append_2_5 0 rfl ?_
  refine xw_iload_n (pc := 6) dJ7_append_2_6 2 rfl ?_
  refine xw_callV (pc := 7) (xr_S (as := [_]) ok_J16_stringSize rfl (by decide) q381 q382 dJ7_append_2_7 rfl rfl (Nat.le_of_ble_eq_true rfl)) (SP_J16_stringSizeA hk) ?_
  refine xn_iadd (pc := 10) dJ7_append_2_10 ?_
  refine xw_istore_n (l' := [(3, _), (2, _), (0, _), (1, _)]) (pc := 11) dJ7_append_2_11 rfl (by decide) rfl ?_
  refine xw_aload_n (pc := 12) dJ7_append_2_12 2 rfl ?_
  refine xw_iload_n (pc := 13) dJ7_append_2_13 0 rfl ?_
  refine xw_callH (pc := 14) (xr_UP (as := [_]) ok_J7_ensureCapacityInternal rfl (by decide) q265 q2767 q268 q267 (by rw [s1]; rfl) (by rw [s1]; exact q221) q266 dJ7_append_2_14 rfl rfl (Nat.le_of_ble_eq_true rfl)) (SP_J7_ensureK_0 (d := d) hS0 (by omega)) ?_
  intro g14 hc14 hm14
  obtain ⟨v14, ev14, hB14, hl14, hF14⟩ := hc14
  have hB140 := hB14
  have hD14 := hD.fr hF14 (by unfold oEq; omega)
  obtain ⟨⟨t1, t2, t3, t7, t5, t6⟩, t4, t8, t9, t10⟩ := hB14
  have t2n : xown g14 b ≠ 0 := by rw [t2]; exact ho
  have t6n : xown g14 v14 ≠ 0 := by rw [t6]; exact ho
  have nbv : b ≠ v14 := hB140.1.ne
  refine xw_aload_n (pc := 17) dJ7_append_2_17 2 rfl ?_
  refine xw_callV (pc := 18) (xr_U (x := ⟨"java/lang/AbstractStringBuilder", "isLatin1", "()Z"⟩) (as := []) ok_J7_isLatin1 rfl (by decide) q300 q302 (Or.inr ⟨_, _, _, q301, q304⟩) ⟨by decide, by decide, by decide +kernel⟩ q301 (by rw [t1]; rfl) (by rw [t1]; exact q303) dJ7_append_2_18 rfl rfl (Nat.le_of_ble_eq_true rfl)) (SP_J7_isLatin1_0 t1 t4) ?_
  refine xw_if_eq (pc := 21) 37 dJ7_append_2_21 rfl (fun hb => absurd hb (by decide)) (fun _ => ?_)
  refine xw_iload_n (pc := 24) dJ7_append_2_24 3 rfl ?_
  refine xw_iload_n (pc := 25) dJ7_append_2_25 0 rfl ?_
  refine xw_aload_n (pc := 26) dJ7_append_2_26 2 rfl ?_
  refine xw_getS (b := v14) (pc := 27) fd_J7_15 dJ7_append_2_27 (by first | assumption | (simp [-List.getD_eq_getElem?_getD, xE_setI, xsz_setI, xsl_setI, xtag_setI, xown_setI, xlen_setI, xE_setR, xsz_setR, xsl_setR, xtag_setR, xown_setR, xlen_setR, xE_setW, xsz_setW, xsl_setW, xtag_setW, xown_setW, xlen_setW, xi_setR, xi_setW, xr_setI, xr_setW, xww_setI, xww_setR, xi_setI, xr_setR, xww_setW, xE_new, xsz_new, xsl_new, s1, s7, t1, t3, t7, t5, t4, t2n, t6n, xsub]; done) | (simp [-List.getD_eq_getElem?_getD, xE_setI, xsz_setI, xsl_setI, xtag_setI, xown_setI, xlen_setI, xE_setR, xsz_setR, xsl_setR, xtag_setR, xown_setR, xlen_setR, xE_setW, xsz_setW, xsl_setW, xtag_setW, xown_setW, xlen_setW, xi_setR, xi_setW, xr_setI, xr_setW, xww_setI, xww_setR, xi_setI, xr_setR, xww_setW, xE_new, xsz_new, xsl_new, s1, s7, t1, t3, t7, t5, t4, t2n, t6n] <;> rfl)) (by simp [-List.getD_eq_getElem?_getD, xE_setI, xsz_setI, xsl_setI, xtag_setI, xown_setI, xlen_setI, xE_setR, xsz_setR, xsl_setR, xtag_setR, xown_setR, xlen_setR, xE_setW, xsz_setW, xsl_setW, xtag_setW, xown_setW, xlen_setW, xi_setR, xi_setW, xr_setI, xr_setW, xww_setI, xww_setR, xi_setI, xr_setR, xww_setW, xE_new, xsz_new, xsl_new, s1, s7, t1, t3, t7, t5, t4, t2n, t6n]) ?_
  refine xw_callV (pc := 30) (xr_S (as := [_, _, _]) ok_J16_getChars rfl (by decide) q384 q385 dJ7_append_2_30 rfl rfl (Nat.le_of_ble_eq_true rfl)) (SP_J16_getCharsA hD14 t5 t6n (by omega) hk (by omega) (by omega)) ?_
  refine xw_pop (pc := 33) dJ7_append_2_33 rfl ?_
  refine xw_goto (pc := 34) 48 dJ7_append_2_34 rfl ?_
  refine xw_aload_n (pc := 48) dJ7_append_2_48 2 rfl ?_
  refine xw_iload_n (pc := 49) dJ7_append_2_49 0 rfl ?_
  refine xw_putI (pc := 50) fd_J7_79 (xfin_of (by decide) (by decide +kernel)) dJ7_append_2_50 (by first | assumption | (simp [-List.getD_eq_getElem?_getD, xE_setI, xsz_setI, xsl_setI, xtag_setI, xown_setI, xlen_setI, xE_setR, xsz_setR, xsl_setR, xtag_setR, xown_setR, xlen_setR, xE_setW, xsz_setW, xsl_setW, xtag_setW, xown_setW, xlen_setW, xi_setR, xi_setW, xr_setI, xr_setW, xww_setI, xww_setR, xi_setI, xr_setR, xww_setW, xE_new, xsz_new, xsl_new, s1, s7, t1, t3, t7, t5, t4, t2n, t6n, xsub]; done) | (simp [-List.getD_eq_getElem?_getD, xE_setI, xsz_setI, xsl_setI, xtag_setI, xown_setI, xlen_setI, xE_setR, xsz_setR, xsl_setR, xtag_setR, xown_setR, xlen_setR, xE_setW, xsz_setW, xsl_setW, xtag_setW, xown_setW, xlen_setW, xi_setR, xi_setW, xr_setI, xr_setW, xww_setI, xww_setR, xi_setI, xr_setR, xww_setW, xE_new, xsz_new, xsl_new, s1, s7, t1, t3, t7, t5, t4, t2n, t6n] <;> rfl)) (by first | assumption | (simp [-List.getD_eq_getElem?_getD, xE_setI, xsz_setI, xsl_setI, xtag_setI, xown_setI, xlen_setI, xE_setR, xsz_setR, xsl_setR, xtag_setR, xown_setR, xlen_setR, xE_setW, xsz_setW, xsl_setW, xtag_setW, xown_setW, xlen_setW, xi_setR, xi_setW, xr_setI, xr_setW, xww_setI, xww_setR, xi_setI, xr_setR, xww_setW, xE_new, xsz_new, xsl_new, s1, s7, t1, t3, t7, t5, t4, t2n, t6n]; done) | (simp [-List.getD_eq_getElem?_getD, xE_setI, xsz_setI, xsl_setI, xtag_setI, xown_setI, xlen_setI, xE_setR, xsz_setR, xsl_setR, xtag_setR, xown_setR, xlen_setR, xE_setW, xsz_setW, xsl_setW, xtag_setW, xown_setW, xlen_setW, xi_setR, xi_setW, xr_setI, xr_setW, xww_setI, xww_setR, xi_setI, xr_setR, xww_setW, xE_new, xsz_new, xsl_new, s1, s7, t1, t3, t7, t5, t4, t2n, t6n]; assumption)) ?_
  refine xw_aload_n (pc := 53) dJ7_append_2_53 2 rfl ?_
  refine xw_aret (pc := 54) (.object "java/lang/AbstractStringBuilder") dJ7_append_2_54 rfl ?_
  refine ⟨rfl, ev14 ▸ hB140.app2 (xc_setI nbv) (by rw [xtag_setI]; exact t5) (by rw [xown_setI]; exact t6) xlen_setI (by omega) (fun j hj => by unfold dgC; rw [if_pos hk]; omega) (fun j hj => ?_) (fun j hj => (xi_setIK (by omega))), (hF14.si (Or.inr t6)).si (Or.inr (by rw [xown_setI]; exact t2))⟩
  rw [show n + j = n + 1 - 1 from by omega, xi_setIS (by rw [t5]; decide)]
  unfold dgC
  rw [if_pos hk]

theorem SP_J7_append_2KB {d : Nat} {g : xG} {k : Nat} {o b v n : Nat} {ch : Nat → Nat} (hS : xBL g o b v n ch) (ho : o ≠ 0) (hD : xDig g) (hk1 : 10 ≤ k) (hk : k < 100) (hl : n + 2 ≤ xlen g v) : XM M_J7_append_2 (d + 5) [.ref b, .int (nI k)] g (xVal (.ref b) (fun g' => xBL g' o b v (n + 2) (chA ch n (dgC k)) ∧ xFr (oEq o) 0 g g')) := by
  have hS0 := hS
  obtain ⟨⟨s1, s2, s3, s7, s5, s6⟩, s4, s8, s9, s10⟩ := hS
  have hl8 := hS0.2.2.2.1
  refine xm_of (by decide +kernel) (Nat.le_of_ble_eq_true rfl) ?_
  show XW _ _ 0 [(0, _), (1, _)] [] _ _
  refine xw_aload_n (pc := 0) dJ7_append_2_0 0 rfl ?_
  refine xw_getNat (k := n) (pc := 1) fd_J7_79 dJ7_append_2_1 (by first | assumption | (simp [-List.getD_eq_getElem?_getD, xE_setI, xsz_setI, xsl_setI, xtag_setI, xown_setI, xlen_setI, xE_setR, xsz_setR, xsl_setR, xtag_setR, xown_setR, xlen_setR, xE_setW, xsz_setW, xsl_setW, xtag_setW, xown_setW, xlen_setW, xi_setR, xi_setW, xr_setI, xr_setW, xww_setI, xww_setR, xi_setI, xr_setR, xww_setW, xE_new, xsz_new, xsl_new, s1, s7, xsub]; done) | (simp [-List.getD_eq_getElem?_getD, xE_setI, xsz_setI, xsl_setI, xtag_setI, xown_setI, xlen_setI, xE_setR, xsz_setR, xsl_setR, xtag_setR, xown_setR, xlen_setR, xE_setW, xsz_setW, xsl_setW, xtag_setW, xown_setW, xlen_setW, xi_setR, xi_setW, xr_setI, xr_setW, xww_setI, xww_setR, xi_setI, xr_setR, xww_setW, xE_new, xsz_new, xsl_new, s1, s7] <;> rfl)) (by simp [-List.getD_eq_getElem?_getD, xE_setI, xsz_setI, xsl_setI, xtag_setI, xown_setI, xlen_setI, xE_setR, xsz_setR, xsl_setR, xtag_setR, xown_setR, xlen_setR, xE_setW, xsz_setW, xsl_setW, xtag_setW, xown_setW, xlen_setW, xi_setR, xi_setW, xr_setI, xr_setW, xww_setI, xww_setR, xi_setI, xr_setR, xww_setW, xE_new, xsz_new, xsl_new, s1, s7]) ?_
  refine xw_istore_n (l' := [(2, _), (0, _), (1, _)]) (pc := 4) dJ7_append_2_4 rfl (by decide) rfl ?_
  refine xw_iload_n (pc := 5) dJ7_append_2_5 0 rfl ?_
  refine xw_iload_n (pc := 6) dJ7_append_2_6 2 rfl ?_
  refine xw_callV (pc := 7) (xr_S (as := [_]) ok_J16_stringSize rfl (by decide) q381 q382 dJ7_append_2_7 rfl rfl (Nat.le_of_ble_eq_true rfl)) (SP_J16_stringSizeB hk1 hk) ?_
  refine xn_iadd (pc := 10) dJ7_append_2_10 ?_
  refine xw_istore_n (l' := [(3, _), (2, _), (0, _), (1, _)]) (pc := 11) dJ7_append_2_11 rfl (by decide) rfl ?_
  refine xw_aload_n (pc := 12) dJ7_append_2_12 2 rfl ?_
  refine xw_iload_n (pc := 13) dJ7_append_2_13 0 rfl ?_
  refine xw_callH (pc := 14) (xr_UP (as := [_]) ok_J7_ensureCapacityInternal rfl (by decide) q265 q2767 q268 q267 (by rw [s1]; rfl) (by rw [s1]; exact q221) q266 dJ7_append_2_14 rfl rfl (Nat.le_of_ble_eq_true rfl)) (SP_J7_ensureK_0 (d := d) hS0 (by omega)) ?_
  intro g14 hc14 hm14
  obtain ⟨v14, ev14, hB14, hl14, hF14⟩ := hc14
  have hB140 := hB14
  have hD14 := hD.fr hF14 (by unfold oEq; omega)
  obtain ⟨⟨t1, t2, t3, t7, t5, t6⟩, t4, t8, t9, t10⟩ := hB14
  have t2n : xown g14 b ≠ 0 := by rw [t2]; exact ho
  have t6n : xown g14 v14 ≠ 0 := by rw [t6]; exact ho
  have nbv : b ≠ v14 := hB140.1.ne
  refine xw_aload_n (pc := 17) dJ7_append_2_17 2 rfl ?_
  refine xw_callV (pc := 18) (xr_U (x := ⟨"java/lang/AbstractStringBuilder", "isLatin1", "()Z"⟩) (as := []) ok_J7_isLatin1 rfl (by decide) q300 q302 (Or.inr ⟨_, _, _, q301, q304⟩) ⟨by decide, by decide, by decide +kernel⟩ q301 (by rw [t1]; rfl) (by rw [t1]; exact q303) dJ7_append_2_18 rfl rfl (Nat.le_of_ble_eq_true rfl)) (SP_J7_isLatin1_0 t1 t4) ?_
  refine xw_if_eq (pc := 21) 37 dJ7_append_2_21 rfl (fun hb => absurd hb (by decide)) (fun _ => ?_)
  refine xw_iload_n (pc := 24) dJ7_append_2_24 3 rfl ?_
  refine xw_iload_n (pc := 25) dJ7_append_2_25 0 rfl ?_
  refine xw_aload_n (pc := 26) dJ7_append_2_26 2 rfl ?_
  refine xw_getS (b := v14) (pc := 27) fd_J7_15 dJ7_append_2_27 (by first | assumption | (simp [-List.getD_eq_getElem?_getD, xE_setI, xsz_setI, xsl_setI, xtag_setI, xown_setI, xlen_setI, xE_setR, xsz_setR, xsl_setR, xtag_setR, xown_setR, xlen_setR, xE_setW, xsz_setW, xsl_setW, xtag_setW, xown_setW, xlen_setW, xi_setR, xi_setW, xr_setI, xr_setW, xww_setI, xww_setR, xi_setI, xr_setR, xww_setW, xE_new, xsz_new, xsl_new, s1, s7, t1, t3, t7, t5, t4, t2n, t6n, xsub]; done) | (simp [-List.getD_eq_getElem?_getD, xE_setI, xsz_setI, xsl_setI, xtag_setI, xown_setI, xlen_setI, xE_setR, xsz_setR, xsl_setR, xtag_setR, xown_setR, xlen_setR, xE_setW, xsz_setW, xsl_setW, xtag_setW, xown_setW, xlen_setW, xi_setR, xi_setW, xr_setI, xr_setW, xww_setI, xww_setR, xi_setI, xr_setR, xww_setW, xE_new, xsz_new, xsl_new, s1, s7, t1, t3, t7, t5, t4, t2n, t6n] <;> rfl)) (by simp [-List.getD_eq_getElem?_getD, xE_setI, xsz_setI, xsl_setI, xtag_setI, xown_setI, xlen_setI, xE_setR, xsz_setR, xsl_setR, xtag_setR, xown_setR, xlen_setR, xE_setW, xsz_setW, xsl_setW, xtag_setW, xown_setW, xlen_setW, xi_setR, xi_setW, xr_setI, xr_setW, xww_setI, xww_setR, xi_setI, xr_setR, xww_setW, xE_new, xsz_new, xsl_new, s1, s7, t1, t3, t7, t5, t4, t2n, t6n]) ?_
  refine xw_callV (pc := 30) (xr_S (as := [_, _, _]) ok_J16_getChars rfl (by decide) q384 q385 dJ7_append_2_30 rfl rfl (Nat.le_of_ble_eq_true rfl)) (SP_J16_getCharsB hD14 t5 t6n (by omega) hk1 hk (by omega) (by omega)) ?_
  refine xw_pop (pc := 33) dJ7_append_2_33 rfl ?_
  refine xw_goto (pc := 34) 48 dJ7_append_2_34 rfl ?_
  refine xw_aload_n (pc := 48) dJ7_append_2_48 2 rfl ?_
  refine xw_iload_n (pc := 49) dJ7_append_2_49 0 rfl ?_
  refine xw_putI (pc := 50) fd_J7_79 (xfin_of (by decide) (by decide +kernel)) dJ7_append_2_50 (by first | assumption | (simp [-List.getD_eq_getElem?_getD, xE_setI, xsz_setI, xsl_setI, xtag_setI, xown_setI, xlen_setI, xE_setR, xsz_setR, xsl_setR, xtag_setR, xown_setR, xlen_setR, xE_setW, xsz_setW, xsl_setW, xtag_setW, xown_setW, xlen_setW, xi_setR, xi_setW, xr_setI, xr_setW, xww_setI, xww_setR, xi_setI, xr_setR, xww_setW, xE_new, xsz_new, xsl_new, s1, s7, t1, t3, t7, t5, t4, t2n, t6n, xsub]; done) | (simp [-List.getD_eq_getElem?_getD, xE_setI, xsz_setI, xsl_setI, xtag_setI, xown_setI, xlen_setI, xE_setR, xsz_setR, xsl_setR, xtag_setR, xown_setR, xlen_setR, xE_setW, xsz_setW, xsl_setW, xtag_setW, xown_setW, xlen_setW, xi_setR, xi_setW, xr_setI, xr_setW, xww_setI, xww_setR, xi_setI, xr_setR, xww_setW, xE_new, xsz_new, xsl_new, s1, s7, t1, t3, t7, t5, t4, t2n, t6n] <;> rfl)) (by first | assumption | (simp [-List.getD_eq_getElem?_getD, xE_setI, xsz_setI, xsl_setI, xtag_setI, xown_setI, xlen_setI, xE_setR, xsz_setR, xsl_setR, xtag_setR, xown_setR, xlen_setR, xE_setW, xsz_setW, xsl_setW, xtag_setW, xown_setW, xlen_setW, xi_setR, xi_setW, xr_setI, xr_setW, xww_setI, xww_setR, xi_setI, xr_setR, xww_setW, xE_new, xsz_new, xsl_new, s1, s7, t1, t3, t7, t5, t4, t2n, t6n]; done) | (simp [-List.getD_eq_getElem?_getD, xE_setI, xsz_setI, xsl_setI, xtag_setI, xown_setI, xlen_setI, xE_setR, xsz_setR, xsl_setR, xtag_setR, xown_setR, xlen_setR, xE_setW, xsz_setW, xsl_setW, xtag_setW, xown_setW, xlen_setW, xi_setR, xi_setW, xr_setI, xr_setW, xww_setI, xww_setR, xi_setI, xr_setR, xww_setW, xE_new, xsz_new, xsl_new, s1, s7, t1, t3, t7, t5, t4, t2n, t6n]; assumption)) ?_
  refine xw_aload_n (pc := 53) dJ7_append_2_53 2 rfl ?_
  refine xw_aret (pc := 54) (.object "java/lang/AbstractStringBuilder") dJ7_append_2_54 rfl ?_
  refine ⟨rfl, ev14 ▸ hB140.app2 ((xc_setI nbv).trans (xc_setI nbv)) (by rw [xtag_setI, xtag_setI]; exact t5) (by rw [xown_setI, xown_setI]; exact t6) (xlen_setI.trans xlen_setI) (by omega) (fun j hj => by unfold dgC; rw [if_neg (by omega)]; split <;> omega) (fun j hj => ?_) (fun j hj => ((xi_setIK (by omega)).trans (xi_setIK (by omega)))), ((hF14.si (Or.inr t6)).si (Or.inr (by rw [xown_setI]; exact t6))).si (Or.inr (by rw [xown_setI, xown_setI]; exact t2))⟩
  unfold dgC
  rw [if_neg (by omega)]
  by_cases hj0 : j = 0
  · rw [if_pos hj0, show n + j = n + 2 - 1 - 1 from by omega]
    exact xi_setIS (by rw [xtag_setI, t5]; decide)
  · rw [if_neg hj0, show n + j = n + 2 - 1 from by omega]
    exact (xi_setIK (by omega)).trans (xi_setIS (by rw [t5]; decide))

theorem SP_J7_append_2K {d : Nat} {g : xG} {k : Nat} {o b v n : Nat} {ch : Nat → Nat} (hS : xBL g o b v n ch) (ho : o ≠ 0) (hD : xDig g) (hk : k < 100) (hl : n + 2 ≤ xlen g v) : XM M_J7_append_2 (d + 5) [.ref b, .int (nI k)] g (xVal (.ref b) (fun g' => xBL g' o b v (n + dgN k) (chA ch n (dgC k)) ∧ xFr (oEq o) 0 g g')) := by
  unfold dgN
  by_cases h : k < 10
  · rw [if_pos h]
    exact SP_J7_append_2KA hS ho hD h hl
  · rw [if_neg h]
    exact SP_J7_append_2KB hS ho hD (by omega) hk hl
theorem SP_J8_append_2K {d : Nat} {g : xG} {k : Nat} {o b v n : Nat} {ch : Nat → Nat} (hS : xBL g o b v n ch) (ho : o ≠ 0) (hD : xDig g) (hk : k < 100) (hl : n + 2 ≤ xlen g v) : XM M_J8_append_2 (d + 6) [.ref b, .int (nI k)] g (xVal (.ref b) (fun g' => xBL g' o b v (n + dgN k) (chA ch n (dgC k)) ∧ xFr (oEq o) 0 g g')) := by
  refine xm_of (by decide +kernel) (Nat.le_of_ble_eq_true rfl) ?_
  show XW _ _ 0 [(0, _), (1, _)] [] _ _
  refine xw_aload_n (pc := 0) dJ8_append_2_0 0 rfl ?_
  refine xw_iload_n (pc := 1) dJ8_append_2_1 1 rfl ?_
  refine xw_callF (pc := 2) (xr_SU (as := [_]) ok_J7_append_2 rfl (by decide) q378 q2772 q251 q379 (by decide) (by exact hS.1.1) dJ8_append_2_2 rfl rfl (Nat.le_of_ble_eq_true rfl)) (SP_J7_append_2K hS ho hD hk hl) ?_
  intro g2 hc2 hm2
  refine xw_pop (pc := 5) dJ8_append_2_5 rfl ?_
  refine xw_aload_n (pc := 6) dJ8_append_2_6 0 rfl ?_
  refine xw_aret (pc := 7) (.object "java/lang/StringBuilder") dJ8_append_2_7 rfl ?_
  exact ⟨rfl, hc2⟩

theorem SP_J7_init {d : Nat} {g : xG} {o b : Nat} (s1 : xtag g b = 19) (s2 : xown g b = o) (ho : o ≠ 0) (z3 : xi g b 3 = nI 0) (ch : Nat → Nat) : XM M_J7_init (d + 1) [.ref b, .int (nI 16)] g (xVoid (fun g' => xBL g' o b (xsz g) 0 ch ∧ xlen g' (xsz g) = 16 ∧ xFr (oEq o) 17 g g')) := by
  have hb : b < xsz g := xlt (by rw [s1]; decide)
  have u1 : xtag (xNew g (xBlank 103 o 16) 16) b = 19 := (xtag_new hb).trans s1
  have u2 : xown (xNew g (xBlank 103 o 16) 16) b = o := (xown_new hb).trans s2
  have u2n : xown (xNew g (xBlank 103 o 16) 16) b ≠ 0 := by rw [u2]; exact ho
  refine xm_of (by decide +kernel) (Nat.le_of_ble_eq_true rfl) ?_
  show XW _ _ 0 [(0, _), (1, _)] [] _ _
  refine xw_aload_n (pc := 0) dJ7_init_0 0 rfl ?_
  refine xw_objInit (pc := 1) dJ7_init_1 q228 (Nat.le_of_ble_eq_true rfl) ?_
  refine xw_gets (i := 7) (pc := 4) dJ7_init_4 rfl q229 ?_
  refine xw_if_eq (pc := 7) 25 dJ7_init_7 rfl (fun hb => absurd hb (by decide)) (fun _ => ?_)
  refine xw_aload_n (pc := 10) dJ7_init_10 0 rfl ?_
  refine xw_iload_n (pc := 11) dJ7_init_11 1 rfl ?_
  refine xw_newa_byte (n := 16) (pc := 12) o dJ7_init_12 q252 (by first | decide | assumption | omega) rfl (by omega) ?_
  refine xw_at (a := (xsz g)) (by rfl) ?_
  refine xw_putR (o := (some (xsz g))) (pc := 14) fd_J7_15 (xfin_of (by decide) (by decide +kernel)) dJ7_init_14 (by first | assumption | (simp [-List.getD_eq_getElem?_getD, xE_setI, xsz_setI, xsl_setI, xtag_setI, xown_setI, xlen_setI, xE_setR, xsz_setR, xsl_setR, xtag_setR, xown_setR, xlen_setR, xE_setW, xsz_setW, xsl_setW, xtag_setW, xown_setW, xlen_setW, xi_setR, xi_setW, xr_setI, xr_setW, xww_setI, xww_setR, xi_setI, xr_setR, xww_setW, xE_new, xsz_new, xsl_new, s1, u1, u2n, xsub]; done) | (simp [-List.getD_eq_getElem?_getD, xE_setI, xsz_setI, xsl_setI, xtag_setI, xown_setI, xlen_setI, xE_setR, xsz_setR, xsl_setR, xtag_setR, xown_setR, xlen_setR, xE_setW, xsz_setW, xsl_setW, xtag_setW, xown_setW, xlen_setW, xi_setR, xi_setW, xr_setI, xr_setW, xww_setI, xww_setR, xi_setI, xr_setR, xww_setW, xE_new, xsz_new, xsl_new, s1, u1, u2n] <;> rfl)) (by first | assumption | (simp [-List.getD_eq_getElem?_getD, xE_setI, xsz_setI, xsl_setI, xtag_setI, xown_setI, xlen_setI, xE_setR, xsz_setR, xsl_setR, xtag_setR, xown_setR, xlen_setR, xE_setW, xsz_setW, xsl_setW, xtag_setW, xown_setW, xlen_setW, xi_setR, xi_setW, xr_setI, xr_setW, xww_setI, xww_setR, xi_setI, xr_setR, xww_setW, xE_new, xsz_new, xsl_new, s1, u1, u2n]; done) | (simp [-List.getD_eq_getElem?_getD, xE_setI, xsz_setI, xsl_setI, xtag_setI, xown_setI, xlen_setI, xE_setR, xsz_setR, xsl_setR, xtag_setR, xown_setR, xlen_setR, xE_setW, xsz_setW, xsl_setW, xtag_setW, xown_setW, xlen_setW, xi_setR, xi_setW, xr_setI, xr_setW, xww_setI, xww_setR, xi_setI, xr_setR, xww_setW, xE_new, xsz_new, xsl_new, s1, u1, u2n]; assumption)) rfl ?_
  refine xw_aload_n (pc := 17) dJ7_init_17 0 rfl ?_
  refine xw_iconst (v := nI 0) (pc := 18) dJ7_init_18 rfl ?_
  refine xw_putI (pc := 19) fd_J7_22 (xfin_of (by decide) (by decide +kernel)) dJ7_init_19 (by first | assumption | (simp [-List.getD_eq_getElem?_getD, xE_setI, xsz_setI, xsl_setI, xtag_setI, xown_setI, xlen_setI, xE_setR, xsz_setR, xsl_setR, xtag_setR, xown_setR, xlen_setR, xE_setW, xsz_setW, xsl_setW, xtag_setW, xown_setW, xlen_setW, xi_setR, xi_setW, xr_setI, xr_setW, xww_setI, xww_setR, xi_setI, xr_setR, xww_setW, xE_new, xsz_new, xsl_new, s1, u1, u2n, xsub]; done) | (simp [-List.getD_eq_getElem?_getD, xE_setI, xsz_setI, xsl_setI, xtag_setI, xown_setI, xlen_setI, xE_setR, xsz_setR, xsl_setR, xtag_setR, xown_setR, xlen_setR, xE_setW, xsz_setW, xsl_setW, xtag_setW, xown_setW, xlen_setW, xi_setR, xi_setW, xr_setI, xr_setW, xww_setI, xww_setR, xi_setI, xr_setR, xww_setW, xE_new, xsz_new, xsl_new, s1, u1, u2n] <;> rfl)) (by first | assumption | (simp [-List.getD_eq_getElem?_getD, xE_setI, xsz_setI, xsl_setI, xtag_setI, xown_setI, xlen_setI, xE_setR, xsz_setR, xsl_setR, xtag_setR, xown_setR, xlen_setR, xE_setW, xsz_setW, xsl_setW, xtag_setW, xown_setW, xlen_setW, xi_setR, xi_setW, xr_setI, xr_setW, xww_setI, xww_setR, xi_setI, xr_setR, xww_setW, xE_new, xsz_new, xsl_new, s1, u1, u2n]; done) | (simp [-List.getD_eq_getElem?_getD, xE_setI, xsz_setI, xsl_setI, xtag_setI, xown_setI, xlen_setI, xE_setR, xsz_setR, xsl_setR, xtag_setR, xown_setR, xlen_setR, xE_setW, xsz_setW, xsl_setW, xtag_setW, xown_setW, xlen_setW, xi_setR, xi_setW, xr_setI, xr_setW, xww_setI, xww_setR, xi_setI, xr_setR, xww_setW, xE_new, xsz_new, xsl_new, s1, u1, u2n]; assumption)) ?_
  refine xw_goto (pc := 22) 38 dJ7_init_22 rfl ?_
  refine xw_vret (pc := 38) dJ7_init_38 rfl ?_
  have v1 : xtag (xNew g (xBlank 103 o 16) 16) (xsz g) = 103 := xtag_newS rfl
  have v2 : xown (xNew g (xBlank 103 o 16) 16) (xsz g) = o := xown_newS rfl
  have v3 : xlen (xNew g (xBlank 103 o 16) 16) (xsz g) = 16 := xlen_newS rfl
  refine ⟨rfl, ⟨⟨by rw [xtag_setI, xtag_setR]; exact u1, by rw [xown_setI, xown_setR]; exact u2, by rw [xr_setI]; exact xr_setRS (by rw [u1]; decide), (xi_setIK (by decide)).trans (xi_setR.trans ((xi_new hb).trans z3)), by rw [xtag_setI, xtag_setR]; exact v1, by rw [xown_setI, xown_setR]; exact v2⟩, xi_setIS (by rw [xtag_setR, u1]; decide), Nat.zero_le _, by rw [xlen_setI, xlen_setR, v3]; decide, fun j hj => absurd hj (Nat.not_lt_zero j)⟩, by rw [xlen_setI, xlen_setR]; exact v3, ?_⟩
  exact ((((xFr.rf (O := oEq o) (n := 0)).nw (c := xBlank 103 o 16) (k := 16)).sr (Or.inr u2)).si (Or.inr (by rw [xown_setR]; exact u2))).sub (fun _ h => h) (by omega)

theorem SP_J8_init {d : Nat} {g : xG} {o b : Nat} (s1 : xtag g b = 19) (s2 : xown g b = o) (ho : o ≠ 0) (z3 : xi g b 3 = nI 0) (ch : Nat → Nat) : XM M_J8_init (d + 2) [.ref b] g (xVoid (fun g' => xBL g' o b (xsz g) 0 ch ∧ xlen g' (xsz g) = 16 ∧ xFr (oEq o) 17 g g')) := by
  refine xm_of (by decide +kernel) (Nat.le_of_ble_eq_true rfl) ?_
  show XW _ _ 0 [(0, _)] [] _ _
  refine xw_aload_n (pc := 0) dJ8_init_0 0 rfl ?_
  refine xw_bipush (v := nI 16) (pc := 1) dJ8_init_1 (by decide +kernel) ?_
  refine xw_callH (pc := 3) (xr_I (as := [_]) ok_J7_init rfl (by decide) q225 q226 rfl rfl dJ8_init_3 rfl rfl (Nat.le_of_ble_eq_true rfl)) (SP_J7_init s1 s2 ho z3 ch) ?_
  intro g3 hc3 hm3
  refine xw_vret (pc := 6) dJ8_init_6 rfl ?_
  exact ⟨rfl, hc3⟩

theorem SP_J15_charAt {d : Nat} {g : xG} {sv k j : Nat} {cs : Nat → Nat} (q4 : xtag g sv = 103) (q5 : xlen g sv = k) (q6 : ∀ j, j < k → cs j < 256 ∧ xi g sv j = bt (cs j)) (hk : k < 1000) (hj : j < k) : XM M_J15_charAt (d + 2) [.ref sv, .int (nI j)] g (xOne (some (.int (nI (cs j)))) g) := by
  have h6 := q6 j hj
  refine xm_of (by decide +kernel) (Nat.le_of_ble_eq_true rfl) ?_
  show XW _ _ 0 [(0, _), (1, _)] [] _ _
  refine xw_iload_n (pc := 0) dJ15_charAt_0 1 rfl ?_
  refine xw_aload_n (pc := 1) dJ15_charAt_1 0 rfl ?_
  refine xw_alen (q := 2) (pc := 2) dJ15_charAt_2 (by simp [-List.getD_eq_getElem?_getD, xE_setI, xsz_setI, xsl_setI, xtag_setI, xown_setI, xlen_setI, xE_setR, xsz_setR, xsl_setR, xtag_setR, xown_setR, xlen_setR, xE_setW, xsz_setW, xsl_setW, xtag_setW, xown_setW, xlen_setW, xi_setR, xi_setW, xr_setI, xr_setW, xww_setI, xww_setR, xi_setI, xr_setR, xww_setW, xE_new, xsz_new, xsl_new, q4, q5]) (by first | decide | omega) ?_
  rw [show xlen _ sv = k from by simp [-List.getD_eq_getElem?_getD, xE_setI, xsz_setI, xsl_setI, xtag_setI, xown_setI, xlen_setI, xE_setR, xsz_setR, xsl_setR, xtag_setR, xown_setR, xlen_setR, xE_setW, xsz_setW, xsl_setW, xtag_setW, xown_setW, xlen_setW, xi_setR, xi_setW, xr_setI, xr_setW, xww_setI, xww_setR, xi_setI, xr_setR, xww_setW, xE_new, xsz_new, xsl_new, q4, q5]]
  refine xw_callU (pc := 3) (xr_S (as := [_, _]) ok_J9_checkIndex rfl (by decide) q1940 q1827 dJ15_charAt_3 rfl rfl (Nat.le_of_ble_eq_true rfl)) (SP_J9_checkIndex hj (by omega)) ?_
  refine xw_aload_n (pc := 6) dJ15_charAt_6 0 rfl ?_
  refine xw_iload_n (pc := 7) dJ15_charAt_7 1 rfl ?_
  refine xw_bald (k := j) (pc := 8) dJ15_charAt_8 (by simp [-List.getD_eq_getElem?_getD, xE_setI, xsz_setI, xsl_setI, xtag_setI, xown_setI, xlen_setI, xE_setR, xsz_setR, xsl_setR, xtag_setR, xown_setR, xlen_setR, xE_setW, xsz_setW, xsl_setW, xtag_setW, xown_setW, xlen_setW, xi_setR, xi_setW, xr_setI, xr_setW, xww_setI, xww_setR, xi_setI, xr_setR, xww_setW, xE_new, xsz_new, xsl_new, q4, q5]) rfl (by rw [q5]; exact hj) ?_
  rw [h6.2]
  refine xw_sipush (v := nI 255) (pc := 9) dJ15_charAt_9 (by decide +kernel) ?_
  refine xw_iand (pc := 12) dJ15_charAt_12 ?_
  rw [bt_and, Nat.mod_eq_of_lt h6.1]
  refine xw_i2c (pc := 13) dJ15_charAt_13 ?_
  rw [nI_i2c (by omega)]
  refine xw_iret (pc := 14) .char dJ15_charAt_14 rfl ?_ (by exact nI_chr (by omega))
  exact ⟨rfl, rfl⟩

theorem SP_J9_charAt {d : Nat} {g : xG} {s sv k : Nat} {cs : Nat → Nat} (hT : xStr g s sv k cs) {j : Nat} (hk : k < 1000) (hj : j < k) : XM M_J9_charAt (d + 3) [.ref s, .int (nI j)] g (xOne (some (.int (nI (cs j)))) g) := by
  have hT0 := hT
  obtain ⟨q1, q2, q3, q4, q5, q6⟩ := hT
  refine xm_of (by decide +kernel) (Nat.le_of_ble_eq_true rfl) ?_
  show XW _ _ 0 [(0, _), (1, _)] [] _ _
  refine xw_aload_n (pc := 0) dJ9_charAt_0 0 rfl ?_
  refine xw_callV (pc := 1) (xr_V (as := []) ok_J9_isLatin1 rfl (by decide) q1933 q1934 q1935 (by rw [q1]; rfl) (by rw [q1]; rfl) dJ9_charAt_1 rfl rfl (Nat.le_of_ble_eq_true rfl)) (SP_J9_isLatin1 hT0) ?_
  refine xw_if_eq (pc := 4) 16 dJ9_charAt_4 rfl (fun hb => absurd hb (by decide)) (fun _ => ?_)
  refine xw_aload_n (pc := 7) dJ9_charAt_7 0 rfl ?_
  refine xw_getS (b := sv) (pc := 8) fd_J9_9 dJ9_charAt_8 (by first | assumption | (simp [-List.getD_eq_getElem?_getD, xE_setI, xsz_setI, xsl_setI, xtag_setI, xown_setI, xlen_setI, xE_setR, xsz_setR, xsl_setR, xtag_setR, xown_setR, xlen_setR, xE_setW, xsz_setW, xsl_setW, xtag_setW, xown_setW, xlen_setW, xi_setR, xi_setW, xr_setI, xr_setW, xww_setI, xww_setR, xi_setI, xr_setR, xww_setW, xE_new, xsz_new, xsl_new, q1, q2, q3, xsub]; done) | (simp [-List.getD_eq_getElem?_getD, xE_setI, xsz_setI, xsl_setI, xtag_setI, xown_setI, xlen_setI, xE_setR, xsz_setR, xsl_setR, xtag_setR, xown_setR, xlen_setR, xE_setW, xsz_setW, xsl_setW, xtag_setW, xown_setW, xlen_setW, xi_setR, xi_setW, xr_setI, xr_setW, xww_setI, xww_setR, xi_setI, xr_setR, xww_setW, xE_new, xsz_new, xsl_new, q1, q2, q3] <;> rfl)) (by simp [-List.getD_eq_getElem?_getD, xE_setI, xsz_setI, xsl_setI, xtag_setI, xown_setI, xlen_setI, xE_setR, xsz_setR, xsl_setR, xtag_setR, xown_setR, xlen_setR, xE_setW, xsz_setW, xsl_setW, xtag_setW, xown_setW, xlen_setW, xi_setR, xi_setW, xr_setI, xr_setW, xww_setI, xww_setR, xi_setI, xr_setR, xww_setW, xE_new, xsz_new, xsl_new, q1, q2, q3]) ?_
  refine xw_iload_n (pc := 11) dJ9_charAt_11 1 rfl ?_
  refine xw_callV (pc := 12) (xr_S (as := [_, _]) ok_J15_charAt rfl (by decide) q1937 q1938 dJ9_charAt_12 rfl rfl (Nat.le_of_ble_eq_true rfl)) (SP_J15_charAt q4 q5 q6 hk hj) ?_
  refine xw_iret (pc := 15) .char dJ9_charAt_15 rfl ?_ (by exact nI_chr (by have := (q6 j hj).1; omega))
  exact ⟨rfl, rfl⟩

theorem SP_J13_checkLength {d : Nat} {g : xG} {a c : Nat} (h : a ≤ c) (hc : c < 2 ^ 31) : XM M_J13_checkLength d [.int (nI a), .int (nI c)] g (xOne none g) := by
  refine xm_of (by decide +kernel) (Nat.le_of_ble_eq_true rfl) ?_
  show XW _ _ 0 [(0, _), (1, _)] [] _ _
  refine xw_iload_n (pc := 0) dJ13_checkLength_0 1 rfl ?_
  refine xw_iload_n (pc := 1) dJ13_checkLength_1 0 rfl ?_
  refine xw_icmp_ge (pc := 2) 37 dJ13_checkLength_2 rfl (fun hb2 => ?_) (fun hb2 => ?_)
  rotate_left
  · exfalso
    replace hb2 : ¬ (a ≤ c) := mt (nI_leI (a := a) (b := c) (by omega) (by omega)).mpr hb2
    omega
  replace hb2 : a ≤ c := (nI_leI (a := a) (b := c) (by omega) (by omega)).mp hb2
  refine xw_vret (pc := 37) dJ13_checkLength_37 rfl ?_
  exact ⟨rfl, rfl⟩

theorem SP_J13_copyOfRangeByte {d : Nat} {g : xG} {v o m : Nat} (s6 : xtag g v = 103) (ho : o ≠ 0) (hm : m < xlen g v) (hm2 : xlen g v < 10000) : XM M_J13_copyOfRangeByte (d + 1) [.ref v, .int (nI 0), .int (nI m)] g (xVal (.ref (xsz g)) (fun g' => xtag g' (xsz g) = 103 ∧ xown g' (xsz g) = o ∧ xlen g' (xsz g) = m ∧ (∀ j, j < m → xi g' (xsz g) j = xi g v j) ∧ xFr oNo (m + 1) g g')) := by
  have hlt : v < xsz g := xlt (by rw [s6]; decide)
  have u1 : xtag (xNew g (xBlank 103 o (m - 0)) (m - 0)) v = 103 := by rw [xtag_new hlt]; exact s6
  have u2 : xlen (xNew g (xBlank 103 o (m - 0)) (m - 0)) v = xlen g v := xlen_new hlt
  have u3 : xtag (xNew g (xBlank 103 o (m - 0)) (m - 0)) (xsz g) = 103 := xtag_newS rfl
  have u4 : xown (xNew g (xBlank 103 o (m - 0)) (m - 0)) (xsz g) = o := xown_newS rfl
  have u5 : xlen (xNew g (xBlank 103 o (m - 0)) (m - 0)) (xsz g) = m - 0 := xlen_newS rfl
  refine xm_of (by decide +kernel) (Nat.le_of_ble_eq_true rfl) ?_
  show XW _ _ 0 [(0, _), (1, _), (2, _)] [] _ _
  refine xw_iload_n (pc := 0) dJ13_copyOfRangeByte_0 1 rfl ?_
  refine xw_iload_n (pc := 1) dJ13_copyOfRangeByte_1 2 rfl ?_
  refine xw_callU (pc := 2) (xr_S (as := [_, _]) ok_J13_checkLength rfl (by decide) q432 q433 dJ13_copyOfRangeByte_2 rfl rfl (Nat.le_of_ble_eq_true rfl)) (SP_J13_checkLength (Nat.zero_le _) (by omega)) ?_
  refine xw_iload_n (pc := 5) dJ13_copyOfRangeByte_5 2 rfl ?_
  refine xw_iload_n (pc := 6) dJ13_copyOfRangeByte_6 1 rfl ?_
  refine xn_isub (pc := 7) dJ13_copyOfRangeByte_7 (by omega) ?_
  refine xw_istore_n (l' := [(3, _), (0, _), (1, _), (2, _)]) (pc := 8) dJ13_copyOfRangeByte_8 rfl (by decide) rfl ?_
  refine xw_iload_n (pc := 9) dJ13_copyOfRangeByte_9 0 rfl ?_
  refine xw_newa_byte (n := (m - 0)) (pc := 10) o dJ13_copyOfRangeByte_10 q252 (by first | decide | assumption | omega) rfl (by omega) ?_
  refine xw_at (a := (xsz g)) (by rfl) ?_
  refine xw_astore (l' := [(4, _), (3, _), (0, _), (1, _), (2, _)]) (pc := 12) dJ13_copyOfRangeByte_12 (by decide) rfl ?_
  refine xw_aload_n (pc := 14) dJ13_copyOfRangeByte_14 2 rfl ?_
  refine xw_iload_n (pc := 15) dJ13_copyOfRangeByte_15 3 rfl ?_
  refine xw_aload (pc := 16) dJ13_copyOfRangeByte_16 0 rfl ?_
  refine xw_iconst (v := nI 0) (pc := 18) dJ13_copyOfRangeByte_18 rfl ?_
  refine xw_aload_n (pc := 19) dJ13_copyOfRangeByte_19 2 rfl ?_
  refine xw_alen (q := 2) (pc := 20) dJ13_copyOfRangeByte_20 (by simp (disch := (first | omega | (simp only [xE_setI, xsz_setI, xsl_setI, xtag_setI, xown_setI, xlen_setI, xE_setR, xsz_setR, xsl_setR, xtag_setR, xown_setR, xlen_setR, xE_setW, xsz_setW, xsl_setW, xtag_setW, xown_setW, xlen_setW, xi_setR, xi_setW, xr_setI, xr_setW, xww_setI, xww_setR, xi_setI, xr_setR, xww_setW, xE_new, xsz_new, xsl_new]; omega))) [-List.getD_eq_getElem?_getD, xE_setI, xsz_setI, xsl_setI, xtag_setI, xown_setI, xlen_setI, xE_setR, xsz_setR, xsl_setR, xtag_setR, xown_setR, xlen_setR, xE_setW, xsz_setW, xsl_setW, xtag_setW, xown_setW, xlen_setW, xi_setR, xi_setW, xr_setI, xr_setW, xww_setI, xww_setR, xi_setI, xr_setR, xww_setW, xE_new, xsz_new, xsl_new, xtag_new, xown_new, xlen_new, xi_new, xr_new, xww_new, xtag_newS, xown_newS, xlen_newS, xi_newS, xr_newS, xww_newS, u1, u2, u3, u4, u5, s6]) (by first | decide | omega) ?_
  rw [show xlen _ v = (xlen g v) from by simp (disch := (first | omega | (simp only [xE_setI, xsz_setI, xsl_setI, xtag_setI, xown_setI, xlen_setI, xE_setR, xsz_setR, xsl_setR, xtag_setR, xown_setR, xlen_setR, xE_setW, xsz_setW, xsl_setW, xtag_setW, xown_setW, xlen_setW, xi_setR, xi_setW, xr_setI, xr_setW, xww_setI, xww_setR, xi_setI, xr_setR, xww_setW, xE_new, xsz_new, xsl_new]; omega))) [-List.getD_eq_getElem?_getD, xE_setI, xsz_setI, xsl_setI, xtag_setI, xown_setI, xlen_setI, xE_setR, xsz_setR, xsl_setR, xtag_setR, xown_setR, xlen_setR, xE_setW, xsz_setW, xsl_setW, xtag_setW, xown_setW, xlen_setW, xi_setR, xi_setW, xr_setI, xr_setW, xww_setI, xww_setR, xi_setI, xr_setR, xww_setW, xE_new, xsz_new, xsl_new, xtag_new, xown_new, xlen_new, xi_new, xr_new, xww_new, xtag_newS, xown_newS, xlen_newS, xi_newS, xr_newS, xww_newS, u1, u2, u3, u4, u5, s6]]
  refine xw_iload_n (pc := 21) dJ13_copyOfRangeByte_21 3 rfl ?_
  refine xn_isub (pc := 22) dJ13_copyOfRangeByte_22 (by omega) ?_
  refine xw_iload_n (pc := 23) dJ13_copyOfRangeByte_23 1 rfl ?_
  refine xn_mmin (pc := 24) dJ13_copyOfRangeByte_24 q294 q106 (Nat.le_of_ble_eq_true rfl) (by omega) (by omega) ?_
  refine xw_copyI (q := 2) (n := min (xlen g v - 0) (m - 0)) (sp := 0) (dp := 0) (pc := 27) dJ13_copyOfRangeByte_27 q297 (by decide) (by exact u1) (by exact u3) (by rw [u4]; exact ho) (by rw [u2]; omega) (by rw [u5]; omega) (by exact Nat.le_of_ble_eq_true rfl) ?_
  refine xw_aload (pc := 30) dJ13_copyOfRangeByte_30 0 rfl ?_
  refine xw_aret (pc := 32) (.array (.byte)) dJ13_copyOfRangeByte_32 rfl ?_
  refine ⟨rfl, (xtag_put (by rfl)).trans u3, (xown_put (by rfl)).trans u4, (xlen_put (by rfl)).trans u5, fun j hj => ?_, xFr.sub (n := 0 + (m + 1)) (O := oNo) (xFr.put (xFr.nw xFr.rf) rfl rfl rfl (Or.inl (Nat.le_refl _))) (fun _ h => h) (by omega)⟩
  have e9 : min (xlen g v - 0) (m - 0) = m := by omega
  unfold xi
  rw [xc_put (show xsz g < xsz (xNew g (xBlank 103 o (m - 0)) (m - 0)) from Nat.lt_succ_self _)]
  show va_cpy _ _ 0 0 (min (xlen g v - 0) (m - 0)) j = _
  unfold va_cpy
  rw [if_pos ⟨Nat.zero_le _, by omega⟩, Nat.zero_add, Nat.sub_zero]
  exact xi_new hlt

theorem SP_J13_copyOfRange {d : Nat} {g : xG} {v o m : Nat} (s6 : xtag g v = 103) (ho : o ≠ 0) (hm : m < xlen g v) (hm2 : xlen g v < 10000) : XM M_J13_copyOfRange (d + 2) [.ref v, .int (nI 0), .int (nI m)] g (xVal (.ref (xsz g)) (fun g' => xtag g' (xsz g) = 103 ∧ xown g' (xsz g) = o ∧ xlen g' (xsz g) = m ∧ (∀ j, j < m → xi g' (xsz g) j = xi g v j) ∧ xFr oNo (m + 1) g g')) := by
  refine xm_of (by decide +kernel) (Nat.le_of_ble_eq_true rfl) ?_
  show XW _ _ 0 [(0, _), (1, _), (2, _)] [] _ _
  refine xw_iload_n (pc := 0) dJ13_copyOfRange_0 1 rfl ?_
  refine xw_if_ne (pc := 1) 10 dJ13_copyOfRange_1 rfl (fun hb => absurd hb (by decide)) (fun _ => ?_)
  refine xw_iload_n (pc := 4) dJ13_copyOfRange_4 2 rfl ?_
  refine xw_aload_n (pc := 5) dJ13_copyOfRange_5 0 rfl ?_
  refine xw_alen (q := 2) (pc := 6) dJ13_copyOfRange_6 (by simp [-List.getD_eq_getElem?_getD, xE_setI, xsz_setI, xsl_setI, xtag_setI, xown_setI, xlen_setI, xE_setR, xsz_setR, xsl_setR, xtag_setR, xown_setR, xlen_setR, xE_setW, xsz_setW, xsl_setW, xtag_setW, xown_setW, xlen_setW, xi_setR, xi_setW, xr_setI, xr_setW, xww_setI, xww_setR, xi_setI, xr_setR, xww_setW, xE_new, xsz_new, xsl_new, s6]) (by first | decide | omega) ?_
  rw [show xlen _ v = (xlen g v) from by simp [-List.getD_eq_getElem?_getD, xE_setI, xsz_setI, xsl_setI, xtag_setI, xown_setI, xlen_setI, xE_setR, xsz_setR, xsl_setR, xtag_setR, xown_setR, xlen_setR, xE_setW, xsz_setW, xsl_setW, xtag_setW, xown_setW, xlen_setW, xi_setR, xi_setW, xr_setI, xr_setW, xww_setI, xww_setR, xi_setI, xr_setR, xww_setW, xE_new, xsz_new, xsl_new, s6]]
  refine xw_icmp_eq (pc := 7) 17 dJ13_copyOfRange_7 rfl (fun hb7 => ?_) (fun hb7 => ?_)
  · exfalso
    replace hb7 : m = (xlen g v) := (nI_eq (a := m) (b := (xlen g v)) (by omega) (by omega)).mp hb7
    omega
  replace hb7 : ¬ (m = (xlen g v)) := mt (nI_eq (a := m) (b := (xlen g v)) (by omega) (by omega)).mpr hb7
  refine xw_aload_n (pc := 10) dJ13_copyOfRange_10 0 rfl ?_
  refine xw_iload_n (pc := 11) dJ13_copyOfRange_11 1 rfl ?_
  refine xw_iload_n (pc := 12) dJ13_copyOfRange_12 2 rfl ?_
  refine xw_callF (pc := 13) (xr_S (as := [_, _, _]) ok_J13_copyOfRangeByte rfl (by decide) q429 q430 dJ13_copyOfRange_13 rfl rfl (Nat.le_of_ble_eq_true rfl)) (SP_J13_copyOfRangeByte s6 ho hm hm2) ?_
  intro g13 hc13 hm13
  refine xw_aret (pc := 16) (.array (.byte)) dJ13_copyOfRange_16 rfl ?_
  exact ⟨rfl, hc13⟩

theorem SP_J7_getValue {d : Nat} {g : xG} {b v : Nat} (s1 : xtag g b = 19) (s3 : xr g b 0 = some v) : XM M_J7_getValue d [.ref b] g (xOne (some (.ref v)) g) := by
  refine xm_of (by decide +kernel) (Nat.le_of_ble_eq_true rfl) ?_
  show XW _ _ 0 [(0, _)] [] _ _
  refine xw_aload_n (pc := 0) dJ7_getValue_0 0 rfl ?_
  refine xw_getS (b := v) (pc := 1) fd_J7_15 dJ7_getValue_1 (by first | assumption | (simp [-List.getD_eq_getElem?_getD, xE_setI, xsz_setI, xsl_setI, xtag_setI, xown_setI, xlen_setI, xE_setR, xsz_setR, xsl_setR, xtag_setR, xown_setR, xlen_setR, xE_setW, xsz_setW, xsl_setW, xtag_setW, xown_setW, xlen_setW, xi_setR, xi_setW, xr_setI, xr_setW, xww_setI, xww_setR, xi_setI, xr_setR, xww_setW, xE_new, xsz_new, xsl_new, s1, s3, xsub]; done) | (simp [-List.getD_eq_getElem?_getD, xE_setI, xsz_setI, xsl_setI, xtag_setI, xown_setI, xlen_setI, xE_setR, xsz_setR, xsl_setR, xtag_setR, xown_setR, xlen_setR, xE_setW, xsz_setW, xsl_setW, xtag_setW, xown_setW, xlen_setW, xi_setR, xi_setW, xr_setI, xr_setW, xww_setI, xww_setR, xi_setI, xr_setR, xww_setW, xE_new, xsz_new, xsl_new, s1, s3] <;> rfl)) (by simp [-List.getD_eq_getElem?_getD, xE_setI, xsz_setI, xsl_setI, xtag_setI, xown_setI, xlen_setI, xE_setR, xsz_setR, xsl_setR, xtag_setR, xown_setR, xlen_setR, xE_setW, xsz_setW, xsl_setW, xtag_setW, xown_setW, xlen_setW, xi_setR, xi_setW, xr_setI, xr_setW, xww_setI, xww_setR, xi_setI, xr_setR, xww_setW, xE_new, xsz_new, xsl_new, s1, s3]) ?_
  refine xw_aret (pc := 4) (.array (.byte)) dJ7_getValue_4 rfl ?_
  exact ⟨rfl, rfl⟩

theorem SP_J9_init_2 {d : Nat} {g : xG} {o b v n s : Nat} {ch : Nat → Nat} (hS : xBL g o b v n ch) (ho : o ≠ 0) (hn : n < xlen g v) (p1 : xtag g s = 20) (p2 : xown g s = o) : XM M_J9_init_2 (d + 3) [.ref s, .ref b, .null] g (xVoid (fun g' => ∃ sv, xStr g' s sv n ch ∧ xown g' s = o ∧ xown g' sv = o ∧ xFr (oEq o) (n + 1) g g')) := by
  have hS0 := hS
  obtain ⟨⟨s1, s2, s3, s7, s5, s6⟩, s4, s8, s9, s10⟩ := hS
  have hs : s < xsz (xsetI g s 1 (nI 0)) := by rw [xsz_setI]; exact xlt (by rw [p1]; decide)
  have p2n : xown g s ≠ 0 := by rw [p2]; exact ho
  have nvs : v ≠ s := fun e9 => by rw [e9, p1] at s5; exact absurd s5 (by decide)
  have w5 : xtag (xsetI g s 1 (nI 0)) v = 103 := xtag_setI.trans s5
  have w6 : xlen (xsetI g s 1 (nI 0)) v = xlen g v := xlen_setI
  refine xm_of (by decide +kernel) (Nat.le_of_ble_eq_true rfl) ?_
  show XW _ _ 0 [(0, _), (1, _), (2, _)] [] _ _
  refine xw_aload_n (pc := 0) dJ9_init_2_0 0 rfl ?_
  refine xw_objInit (pc := 1) dJ9_init_2_1 q411 (Nat.le_of_ble_eq_true rfl) ?_
  refine xw_aload_n (pc := 4) dJ9_init_2_4 1 rfl ?_
  refine xw_callV (pc := 5) (xr_U (x := ⟨"java/lang/AbstractStringBuilder", "getValue", "()[B"⟩) (as := []) ok_J7_getValue rfl (by decide) q412 q414 (Or.inr ⟨_, _, _, q413, q416⟩) ⟨by decide, by decide, by decide +kernel⟩ q413 (by rw [s1]; rfl) (by rw [s1]; exact q415) dJ9_init_2_5 rfl rfl (Nat.le_of_ble_eq_true rfl)) (SP_J7_getValue s1 s3) ?_
  refine xw_astore_n (l' := [(3, _), (0, _), (1, _), (2, _)]) (pc := 8) dJ9_init_2_8 rfl (by decide) rfl ?_
  refine xw_aload_n (pc := 9) dJ9_init_2_9 2 rfl ?_
  refine xw_callV (pc := 10) (xr_U (x := ⟨"java/lang/AbstractStringBuilder", "length", "()I"⟩) (as := []) ok_J8_length rfl (by decide) q417 q419 (Or.inr ⟨_, _, _, q418, q424⟩) ⟨by decide, by decide, by decide +kernel⟩ q421 (by rw [s1]; rfl) (by rw [s1]; exact q420) dJ9_init_2_10 rfl rfl (Nat.le_of_ble_eq_true rfl)) (SP_J8_length hS0.1) ?_
  refine xw_istore (l' := [(4, _), (3, _), (0, _), (1, _), (2, _)]) (pc := 13) dJ9_init_2_13 (by decide) rfl ?_
  refine xw_aload_n (pc := 15) dJ9_init_2_15 3 rfl ?_
  refine xw_callV (pc := 16) (xr_U (x := ⟨"java/lang/AbstractStringBuilder", "isLatin1", "()Z"⟩) (as := []) ok_J7_isLatin1 rfl (by decide) q425 q302 (Or.inr ⟨_, _, _, q301, q304⟩) ⟨by decide, by decide, by decide +kernel⟩ q301 (by rw [s1]; rfl) (by rw [s1]; exact q303) dJ9_init_2_16 rfl rfl (Nat.le_of_ble_eq_true rfl)) (SP_J7_isLatin1_0 s1 s4) ?_
  refine xw_if_eq (pc := 19) 41 dJ9_init_2_19 rfl (fun hb => absurd hb (by decide)) (fun _ => ?_)
  refine xw_aload_n (pc := 22) dJ9_init_2_22 2 rfl ?_
  refine xw_iconst (v := nI 0) (pc := 23) dJ9_init_2_23 rfl ?_
  refine xw_putI (pc := 24) fd_J9_15 (xfin_of (by decide) (by decide +kernel)) dJ9_init_2_24 (by first | assumption | (simp [-List.getD_eq_getElem?_getD, xE_setI, xsz_setI, xsl_setI, xtag_setI, xown_setI, xlen_setI, xE_setR, xsz_setR, xsl_setR, xtag_setR, xown_setR, xlen_setR, xE_setW, xsz_setW, xsl_setW, xtag_setW, xown_setW, xlen_setW, xi_setR, xi_setW, xr_setI, xr_setW, xww_setI, xww_setR, xi_setI, xr_setR, xww_setW, xE_new, xsz_new, xsl_new, s1, s3, s7, s4, s5, p1, p2n, xsub]; done) | (simp [-List.getD_eq_getElem?_getD, xE_setI, xsz_setI, xsl_setI, xtag_setI, xown_setI, xlen_setI, xE_setR, xsz_setR, xsl_setR, xtag_setR, xown_setR, xlen_setR, xE_setW, xsz_setW, xsl_setW, xtag_setW, xown_setW, xlen_setW, xi_setR, xi_setW, xr_setI, xr_setW, xww_setI, xww_setR, xi_setI, xr_setR, xww_setW, xE_new, xsz_new, xsl_new, s1, s3, s7, s4, s5, p1, p2n] <;> rfl)) (by first | assumption | (simp [-List.getD_eq_getElem?_getD, xE_setI, xsz_setI, xsl_setI, xtag_setI, xown_setI, xlen_setI, xE_setR, xsz_setR, xsl_setR, xtag_setR, xown_setR, xlen_setR, xE_setW, xsz_setW, xsl_setW, xtag_setW, xown_setW, xlen_setW, xi_setR, xi_setW, xr_setI, xr_setW, xww_setI, xww_setR, xi_setI, xr_setR, xww_setW, xE_new, xsz_new, xsl_new, s1, s3, s7, s4, s5, p1, p2n]; done) | (simp [-List.getD_eq_getElem?_getD, xE_setI, xsz_setI, xsl_setI, xtag_setI, xown_setI, xlen_setI, xE_setR, xsz_setR, xsl_setR, xtag_setR, xown_setR, xlen_setR, xE_setW, xsz_setW, xsl_setW, xtag_setW, xown_setW, xlen_setW, xi_setR, xi_setW, xr_setI, xr_setW, xww_setI, xww_setR, xi_setI, xr_setR, xww_setW, xE_new, xsz_new, xsl_new, s1, s3, s7, s4, s5, p1, p2n]; assumption)) ?_
  refine xw_aload_n (pc := 27) dJ9_init_2_27 2 rfl ?_
  refine xw_aload_n (pc := 28) dJ9_init_2_28 1 rfl ?_
  refine xw_iconst (v := nI 0) (pc := 29) dJ9_init_2_29 rfl ?_
  refine xw_iload (pc := 30) dJ9_init_2_30 0 rfl ?_
  refine xw_callF (pc := 32) (xr_S (as := [_, _, _]) ok_J13_copyOfRange rfl (by decide) q426 q427 dJ9_init_2_32 rfl rfl (Nat.le_of_ble_eq_true rfl)) (SP_J13_copyOfRange (d := d) (o := o) w5 ho (by rw [w6]; exact hn) (by rw [w6]; omega)) ?_
  intro g32 hc32 hm32
  obtain ⟨c1, c2, c3, c4, F32⟩ := hc32
  have u32 : xtag g32 s = 20 := (F32.tag hs).trans (xtag_setI.trans p1)
  have u32n : xown g32 s ≠ 0 := by rw [F32.own hs, xown_setI]; exact p2n
  refine xw_putR (o := (some (xsz (xsetI g s 1 (nI 0))))) (pc := 35) fd_J9_9 (xfin_of (by decide) (by decide +kernel)) dJ9_init_2_35 (by first | assumption | (simp [-List.getD_eq_getElem?_getD, xE_setI, xsz_setI, xsl_setI, xtag_setI, xown_setI, xlen_setI, xE_setR, xsz_setR, xsl_setR, xtag_setR, xown_setR, xlen_setR, xE_setW, xsz_setW, xsl_setW, xtag_setW, xown_setW, xlen_setW, xi_setR, xi_setW, xr_setI, xr_setW, xww_setI, xww_setR, xi_setI, xr_setR, xww_setW, xE_new, xsz_new, xsl_new, s1, s3, s7, s4, s5, p1, p2n, u32, u32n, xsub]; done) | (simp [-List.getD_eq_getElem?_getD, xE_setI, xsz_setI, xsl_setI, xtag_setI, xown_setI, xlen_setI, xE_setR, xsz_setR, xsl_setR, xtag_setR, xown_setR, xlen_setR, xE_setW, xsz_setW, xsl_setW, xtag_setW, xown_setW, xlen_setW, xi_setR, xi_setW, xr_setI, xr_setW, xww_setI, xww_setR, xi_setI, xr_setR, xww_setW, xE_new, xsz_new, xsl_new, s1, s3, s7, s4, s5, p1, p2n, u32, u32n] <;> rfl)) (by first | assumption | (simp [-List.getD_eq_getElem?_getD, xE_setI, xsz_setI, xsl_setI, xtag_setI, xown_setI, xlen_setI, xE_setR, xsz_setR, xsl_setR, xtag_setR, xown_setR, xlen_setR, xE_setW, xsz_setW, xsl_setW, xtag_setW, xown_setW, xlen_setW, xi_setR, xi_setW, xr_setI, xr_setW, xww_setI, xww_setR, xi_setI, xr_setR, xww_setW, xE_new, xsz_new, xsl_new, s1, s3, s7, s4, s5, p1, p2n, u32, u32n]; done) | (simp [-List.getD_eq_getElem?_getD, xE_setI, xsz_setI, xsl_setI, xtag_setI, xown_setI, xlen_setI, xE_setR, xsz_setR, xsl_setR, xtag_setR, xown_setR, xlen_setR, xE_setW, xsz_setW, xsl_setW, xtag_setW, xown_setW, xlen_setW, xi_setR, xi_setW, xr_setI, xr_setW, xww_setI, xww_setR, xi_setI, xr_setR, xww_setW, xE_new, xsz_new, xsl_new, s1, s3, s7, s4, s5, p1, p2n, u32, u32n]; assumption)) rfl ?_
  refine xw_goto (pc := 38) 97 dJ9_init_2_38 rfl ?_
  refine xw_vret (pc := 97) dJ9_init_2_97 rfl ?_
  have fin : xFr (oEq o) (n + 1) g (xsetR g32 s 0 (some (xsz (xsetI g s 1 (nI 0))))) := (((xFr.rf (O := oEq o) (n := 0)).si (Or.inr p2)).tr (F32.sub (m := n + 1) (O' := oEq o) (fun _ h => h.elim) (Nat.le_refl _))).sr (Or.inr ((F32.own hs).trans (xown_setI.trans p2))) |>.sub (fun _ h => h) (by omega)
  have nsv : xsz (xsetI g s 1 (nI 0)) ≠ s := fun e9 => absurd hs (by rw [e9]; exact Nat.lt_irrefl s)
  have cv : xc (xsetR g32 s 0 (some (xsz (xsetI g s 1 (nI 0))))) (xsz (xsetI g s 1 (nI 0))) = xc g32 (xsz (xsetI g s 1 (nI 0))) := xc_setR nsv
  refine ⟨rfl, xsz (xsetI g s 1 (nI 0)), ⟨by rw [xtag_setR]; exact u32, xr_setRS (by rw [u32]; decide), by rw [xi_setR, F32.i' hs (fun h => h)]; exact xi_setIS (by rw [p1]; decide), by rw [xtag_setR]; exact c1, by rw [xlen_setR]; exact c3, fun j hj => ⟨(s10 j hj).1, by rw [xi_of cv, c4 j hj, xi_of (xc_setI nvs)]; exact (s10 j hj).2⟩⟩, by rw [xown_setR, F32.own hs, xown_setI]; exact p2, by rw [xown_setR]; exact c2, fin⟩

theorem SP_J9_init {d : Nat} {g : xG} {o b v n s : Nat} {ch : Nat → Nat} (hS : xBL g o b v n ch) (ho : o ≠ 0) (hn : n < xlen g v) (p1 : xtag g s = 20) (p2 : xown g s = o) : XM M_J9_init (d + 4) [.ref s, .ref b] g (xVoid (fun g' => ∃ sv, xStr g' s sv n ch ∧ xown g' s = o ∧ xown g' sv = o ∧ xFr (oEq o) (n + 1) g g')) := by
  refine xm_of (by decide +kernel) (Nat.le_of_ble_eq_true rfl) ?_
  show XW _ _ 0 [(0, _), (1, _)] [] _ _
  refine xw_aload_n (pc := 0) dJ9_init_0 0 rfl ?_
  refine xw_aload_n (pc := 1) dJ9_init_1 1 rfl ?_
  refine xw_null (pc := 2) dJ9_init_2 ?_
  refine xw_callH (pc := 3) (xr_I (as := [_, _]) ok_J9_init_2 rfl (by decide) q408 q409 rfl rfl dJ9_init_3 rfl rfl (Nat.le_of_ble_eq_true rfl)) (SP_J9_init_2 hS ho hn p1 p2) ?_
  intro g3 hc3 hm3
  refine xw_vret (pc := 6) dJ9_init_6 rfl ?_
  exact ⟨rfl, hc3⟩

theorem SP_J8_toString {d : Nat} {g : xG} {o b v n : Nat} {ch : Nat → Nat} (hS : xBL g o b v n ch) (ho : o ≠ 0) (hn : n < xlen g v) : XM M_J8_toString (d + 5) [.ref b] g (xVal (.ref (xsz g)) (fun g' => ∃ sv, xStr g' (xsz g) sv n ch ∧ xown g' (xsz g) = o ∧ xown g' sv = o ∧ xFr (oEq o) (n + 10) g g')) := by
  have FN : xFr (oEq o) 9 g (xNew g (xBlank 20 o 4) 4) := (xFr.rf (O := oEq o) (n := 0)).nw.sub (fun _ h => h) (by decide)
  have hSN : xBL (xNew g (xBlank 20 o 4) 4) o b v n ch := by
    have FN0 : xFr oNo 9 g (xNew g (xBlank 20 o 4) 4) := (xFr.rf (O := oNo) (n := 0)).nw.sub (fun _ h => h) (by decide)
    exact hS.fr FN0 (fun h => h)
  have hv : v < xsz g := xlt (by rw [hS.1.2.2.2.2.1]; decide)
  refine xm_of (by decide +kernel) (Nat.le_of_ble_eq_true rfl) ?_
  show XW _ _ 0 [(0, _)] [] _ _
  refine xw_new (t := 20) (pc := 0) o dJ8_toString_0 rfl (by decide) (by first | decide | assumption | omega) q403 q404 q103 ?_
  refine xw_at (a := (xsz g)) (by rfl) ?_
  refine xw_dup (pc := 3) dJ8_toString_3 rfl ?_
  refine xw_aload_n (pc := 4) dJ8_toString_4 0 rfl ?_
  refine xw_callH (pc := 5) (xr_I (as := [_]) ok_J9_init rfl (by decide) q405 q406 rfl rfl dJ8_toString_5 rfl rfl (Nat.le_of_ble_eq_true rfl)) (SP_J9_init hSN ho (by rw [FN.len hv]; exact hn) (xtag_newS rfl) (xown_newS rfl)) ?_
  intro g5 hc5 hm5
  refine xw_aret (pc := 8) (.object "java/lang/String") dJ8_toString_8 rfl ?_
  obtain ⟨sv, h1, h2, h3, h4⟩ := hc5
  exact ⟨rfl, sv, h1, h2, h3, (FN.tr h4).sub (fun _ h => h) (by omega)⟩

