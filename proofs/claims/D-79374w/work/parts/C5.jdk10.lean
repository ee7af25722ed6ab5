/-! JDK 10: StringBuilder: append a String, a small number -/
set_option maxRecDepth 100000
/-- a String of bytes -/
def xStr (g : xG) (s sv k : Nat) (cs : Nat → Nat) : Prop := xtag g s = 20 ∧ xr g s 0 = some sv ∧ xi g s 1 = nI 0 ∧ xtag g sv = 103 ∧ xlen g sv = k ∧ ∀ j, j < k → cs j < 256 ∧ xi g sv j = bt (cs j)
theorem xStr.fr {g g' : xG} {s sv k N : Nat} {cs : Nat → Nat} {O : Nat → Prop} (h : xStr g s sv k cs) (F : xFr O N g g') (h1 : ¬ O (xown g s)) (h2 : ¬ O (xown g sv)) : xStr g' s sv k cs := by
  obtain ⟨a1, a2, a3, a4, a5, a6⟩ := h
  have hs : s < xsz g := xlt (by rw [a1]; decide)
  have hv : sv < xsz g := xlt (by rw [a4]; decide)
  exact ⟨(F.tag hs).trans a1, (F.r' hs h1).trans a2, (F.i' hs h1).trans a3, (F.tag hv).trans a4, (F.len hv).trans a5, fun j hj => ⟨(a6 j hj).1, (F.i' hv h2).trans (a6 j hj).2⟩⟩
/-- chars behind chars -/
def chA (ch : Nat → Nat) (n : Nat) (cs : Nat → Nat) : Nat → Nat := fun j => if j < n then ch j else cs (j - n)
theorem xBL.app {g : xG} {o b v n k : Nat} {ch cs : Nat → Nat} {f : Nat → Int32} (h : xBL g o b v n ch) (hl : n + k ≤ xlen g v) (h1 : ∀ j, j < k → cs j < 256) (h2 : ∀ j, j < k → f (n + j) = bt (cs j)) (h3 : ∀ j, j < n → f j = xi g v j) : xBL (xsetI (xPut g v (xcI (xc g v) f)) b 3 (nI (n + k))) o b v (n + k) (chA ch n cs) := by
  have hn := h.1.ne
  obtain ⟨⟨a1, a2, a3, a4, a5, a6⟩, b1, b2, b3, b4⟩ := h
  have hv : v < xsz g := xlt (by rw [a5]; decide)
  have ec : xc (xPut g v (xcI (xc g v) f)) b = xc g b := xc_putN hn
  have et : xtag (xPut g v (xcI (xc g v) f)) b = 19 := (congrArg (fun z : xCell => z.1) ec).trans a1
  have ev : xc (xPut g v (xcI (xc g v) f)) v = xcI (xc g v) f := xc_put hv
  have el : xlen (xPut g v (xcI (xc g v) f)) v = xlen g v := by
    have h9 := congrArg (fun z : xCell => z.2.2.1) ev
    exact h9
  refine ⟨⟨by rw [xtag_setI]; exact et, by rw [xown_setI]; exact (congrArg (fun z : xCell => z.2.1) ec).trans a2, by rw [xr_setI]; exact (congrArg (fun z : xCell => z.2.2.2.2.1 0) ec).trans a3, xi_setIS (by rw [et]; decide), by rw [xtag_setI]; exact (congrArg (fun z : xCell => z.1) ev).trans a5, by rw [xown_setI]; exact (congrArg (fun z : xCell => z.2.1) ev).trans a6⟩, (xi_setIK (by decide)).trans ((xi_of ec _).trans b1), by rw [xlen_setI, el]; exact hl, by rw [xlen_setI, el]; exact b3, fun j hj => ?_⟩
  have e1 : xi (xsetI (xPut g v (xcI (xc g v) f)) b 3 (nI (n + k))) v j = f j := (xi_of (xc_setI (Ne.symm hn)) _).trans (congrArg (fun z : xCell => z.2.2.2.1 j) ev)
  rw [e1]
  unfold chA
  by_cases hj2 : j < n
  · rw [if_pos hj2]
    exact ⟨(b4 j hj2).1, (h3 j hj2).trans (b4 j hj2).2⟩
  · rw [if_neg hj2]
    have e2 := h2 (j - n) (by omega)
    rw [show n + (j - n) = j from by omega] at e2
    exact ⟨h1 _ (by omega), e2⟩

theorem SP_J9_coder {d : Nat} {g : xG} {s sv k : Nat} {cs : Nat → Nat} (hT : xStr g s sv k cs) : XM M_J9_coder d [.ref s] g (xOne (some (.int (nI 0))) g) := by
  have hT0 := hT
  obtain ⟨q1, q2, q3, q4, q5, q6⟩ := hT
  refine xm_of (by decide +kernel) (Nat.le_of_ble_eq_true rfl) ?_
  show XW _ _ 0 [(0, _)] [] _ _
  refine xw_gets (i := 7) (pc := 0) dJ9_coder_0 rfl q339 ?_
  refine xw_if_eq (pc := 3) 13 dJ9_coder_3 rfl (fun hb => absurd hb (by decide)) (fun _ => ?_)
  refine xw_aload_n (pc := 6) dJ9_coder_6 0 rfl ?_
  refine xw_getNat (k := 0) (pc := 7) fd_J9_15 dJ9_coder_7 (by first | assumption | (simp [-List.getD_eq_getElem?_getD, xE_setI, xsz_setI, xsl_setI, xtag_setI, xown_setI, xlen_setI, xE_setR, xsz_setR, xsl_setR, xtag_setR, xown_setR, xlen_setR, xE_setW, xsz_setW, xsl_setW, xtag_setW, xown_setW, xlen_setW, xi_setR, xi_setW, xr_setI, xr_setW, xww_setI, xww_setR, xi_setI, xr_setR, xww_setW, xE_new, xsz_new, xsl_new, q1, q2, q3, q4, q5, xsub]; done) | (simp [-List.getD_eq_getElem?_getD, xE_setI, xsz_setI, xsl_setI, xtag_setI, xown_setI, xlen_setI, xE_setR, xsz_setR, xsl_setR, xtag_setR, xown_setR, xlen_setR, xE_setW, xsz_setW, xsl_setW, xtag_setW, xown_setW, xlen_setW, xi_setR, xi_setW, xr_setI, xr_setW, xww_setI, xww_setR, xi_setI, xr_setR, xww_setW, xE_new, xsz_new, xsl_new, q1, q2, q3, q4, q5] <;> rfl)) (by simp [-List.getD_eq_getElem?_getD, xE_setI, xsz_setI, xsl_setI, xtag_setI, xown_setI, xlen_setI, xE_setR, xsz_setR, xsl_setR, xtag_setR, xown_setR, xlen_setR, xE_setW, xsz_setW, xsl_setW, xtag_setW, xown_setW, xlen_setW, xi_setR, xi_setW, xr_setI, xr_setW, xww_setI, xww_setR, xi_setI, xr_setR, xww_setW, xE_new, xsz_new, xsl_new, q1, q2, q3, q4, q5]) ?_
  refine xw_goto (pc := 10) 14 dJ9_coder_10 rfl ?_
  refine xw_iret (pc := 14) .byte dJ9_coder_14 rfl ?_ 
  exact ⟨rfl, rfl⟩

theorem SP_J9_length {d : Nat} {g : xG} {s sv k : Nat} {cs : Nat → Nat} (hT : xStr g s sv k cs) (hk : k < 2 ^ 31) : XM M_J9_length (d + 1) [.ref s] g (xOne (some (.int (nI k))) g) := by
  have hT0 := hT
  obtain ⟨q1, q2, q3, q4, q5, q6⟩ := hT
  refine xm_of (by decide +kernel) (Nat.le_of_ble_eq_true rfl) ?_
  show XW _ _ 0 [(0, _)] [] _ _
  refine xw_aload_n (pc := 0) dJ9_length_0 0 rfl ?_
  refine xw_getS (b := sv) (pc := 1) fd_J9_9 dJ9_length_1 (by first | assumption | (simp [-List.getD_eq_getElem?_getD, xE_setI, xsz_setI, xsl_setI, xtag_setI, xown_setI, xlen_setI, xE_setR, xsz_setR, xsl_setR, xtag_setR, xown_setR, xlen_setR, xE_setW, xsz_setW, xsl_setW, xtag_setW, xown_setW, xlen_setW, xi_setR, xi_setW, xr_setI, xr_setW, xww_setI, xww_setR, xi_setI, xr_setR, xww_setW, xE_new, xsz_new, xsl_new, q1, q2, q3, q4, q5, xsub]; done) | (simp [-List.getD_eq_getElem?_getD, xE_setI, xsz_setI, xsl_setI, xtag_setI, xown_setI, xlen_setI, xE_setR, xsz_setR, xsl_setR, xtag_setR, xown_setR, xlen_setR, xE_setW, xsz_setW, xsl_setW, xtag_setW, xown_setW, xlen_setW, xi_setR, xi_setW, xr_setI, xr_setW, xww_setI, xww_setR, xi_setI, xr_setR, xww_setW, xE_new, xsz_new, xsl_new, q1, q2, q3, q4, q5] <;> rfl)) (by simp [-List.getD_eq_getElem?_getD, xE_setI, xsz_setI, xsl_setI, xtag_setI, xown_setI, xlen_setI, xE_setR, xsz_setR, xsl_setR, xtag_setR, xown_setR, xlen_setR, xE_setW, xsz_setW, xsl_setW, xtag_setW, xown_setW, xlen_setW, xi_setR, xi_setW, xr_setI, xr_setW, xww_setI, xww_setR, xi_setI, xr_setR, xww_setW, xE_new, xsz_new, xsl_new, q1, q2, q3, q4, q5]) ?_
  refine xw_alen (q := 2) (pc := 4) dJ9_length_4 (by simp [-List.getD_eq_getElem?_getD, xE_setI, xsz_setI, xsl_setI, xtag_setI, xown_setI, xlen_setI, xE_setR, xsz_setR, xsl_setR, xtag_setR, xown_setR, xlen_setR, xE_setW, xsz_setW, xsl_setW, xtag_setW, xown_setW, xlen_setW, xi_setR, xi_setW, xr_setI, xr_setW, xww_setI, xww_setR, xi_setI, xr_setR, xww_setW, xE_new, xsz_new, xsl_new, q1, q2, q3, q4, q5]) (by first | decide | omega) ?_
  rw [show xlen _ sv = k from by simp [-List.getD_eq_getElem?_getD, xE_setI, xsz_setI, xsl_setI, xtag_setI, xown_setI, xlen_setI, xE_setR, xsz_setR, xsl_setR, xtag_setR, xown_setR, xlen_setR, xE_setW, xsz_setW, xsl_setW, xtag_setW, xown_setW, xlen_setW, xi_setR, xi_setW, xr_setI, xr_setW, xww_setI, xww_setR, xi_setI, xr_setR, xww_setW, xE_new, xsz_new, xsl_new, q1, q2, q3, q4, q5]]
  refine xw_aload_n (pc := 5) dJ9_length_5 0 rfl ?_
  refine xw_callV (pc := 6) (xr_V (as := []) ok_J9_coder rfl (by decide) q335 q336 q337 (by rw [q1]; rfl) (by rw [q1]; rfl) dJ9_length_6 rfl rfl (Nat.le_of_ble_eq_true rfl)) (SP_J9_coder hT0) ?_
  refine xn_ishr (c := k) (pc := 9) dJ9_length_9 (by decide) (by first | omega | (simp; done) | (simp; omega)) (by omega) ?_
  refine xw_iret (pc := 10) .int dJ9_length_10 rfl ?_ 
  exact ⟨rfl, rfl⟩

theorem SP_J9_getBytes {d : Nat} {g : xG} {w p : Nat} {s sv k : Nat} {cs : Nat → Nat} (hT : xStr g s sv k cs) (w1 : xtag g w = 103) (w2 : xown g w ≠ 0) (w3 : p + k ≤ xlen g w) (hk : k < 2000) : XM M_J9_getBytes (d + 1) [.ref s, .ref w, .int (nI p), .int (nI 0)] g (xOne none (xPut g w (xcI (xc g w) (va_cpy (xi g sv) (xi g w) 0 p k)))) := by
  have hT0 := hT
  obtain ⟨q1, q2, q3, q4, q5, q6⟩ := hT
  refine xm_of (by decide +kernel) (Nat.le_of_ble_eq_true rfl) ?_
  show XW _ _ 0 [(0, _), (1, _), (2, _), (3, _)] [] _ _
  refine xw_aload_n (pc := 0) dJ9_getBytes_0 0 rfl ?_
  refine xw_callV (pc := 1) (xr_V (as := []) ok_J9_coder rfl (by decide) q335 q336 q337 (by rw [q1]; rfl) (by rw [q1]; rfl) dJ9_getBytes_1 rfl rfl (Nat.le_of_ble_eq_true rfl)) (SP_J9_coder hT0) ?_
  refine xw_iload_n (pc := 4) dJ9_getBytes_4 3 rfl ?_
  refine xw_icmp_ne (pc := 5) 28 dJ9_getBytes_5 rfl (fun hb => absurd hb (by decide)) (fun _ => ?_)
  refine xw_aload_n (pc := 8) dJ9_getBytes_8 0 rfl ?_
  refine xw_getS (b := sv) (pc := 9) fd_J9_9 dJ9_getBytes_9 (by first | assumption | (simp [-List.getD_eq_getElem?_getD, xE_setI, xsz_setI, xsl_setI, xtag_setI, xown_setI, xlen_setI, xE_setR, xsz_setR, xsl_setR, xtag_setR, xown_setR, xlen_setR, xE_setW, xsz_setW, xsl_setW, xtag_setW, xown_setW, xlen_setW, xi_setR, xi_setW, xr_setI, xr_setW, xww_setI, xww_setR, xi_setI, xr_setR, xww_setW, xE_new, xsz_new, xsl_new, q1, q2, q3, q4, q5, w1, xsub]; done) | (simp [-List.getD_eq_getElem?_getD, xE_setI, xsz_setI, xsl_setI, xtag_setI, xown_setI, xlen_setI, xE_setR, xsz_setR, xsl_setR, xtag_setR, xown_setR, xlen_setR, xE_setW, xsz_setW, xsl_setW, xtag_setW, xown_setW, xlen_setW, xi_setR, xi_setW, xr_setI, xr_setW, xww_setI, xww_setR, xi_setI, xr_setR, xww_setW, xE_new, xsz_new, xsl_new, q1, q2, q3, q4, q5, w1] <;> rfl)) (by simp [-List.getD_eq_getElem?_getD, xE_setI, xsz_setI, xsl_setI, xtag_setI, xown_setI, xlen_setI, xE_setR, xsz_setR, xsl_setR, xtag_setR, xown_setR, xlen_setR, xE_setW, xsz_setW, xsl_setW, xtag_setW, xown_setW, xlen_setW, xi_setR, xi_setW, xr_setI, xr_setW, xww_setI, xww_setR, xi_setI, xr_setR, xww_setW, xE_new, xsz_new, xsl_new, q1, q2, q3, q4, q5, w1]) ?_
  refine xw_iconst (v := nI 0) (pc := 12) dJ9_getBytes_12 rfl ?_
  refine xw_aload_n (pc := 13) dJ9_getBytes_13 1 rfl ?_
  refine xw_iload_n (pc := 14) dJ9_getBytes_14 2 rfl ?_
  refine xw_iload_n (pc := 15) dJ9_getBytes_15 3 rfl ?_
  refine xn_ishl (c := p) (pc := 16) dJ9_getBytes_16 (by decide) (by first | omega | (simp; done) | (simp; omega)) ?_
  refine xw_aload_n (pc := 17) dJ9_getBytes_17 0 rfl ?_
  refine xw_getS (b := sv) (pc := 18) fd_J9_9 dJ9_getBytes_18 (by first | assumption | (simp [-List.getD_eq_getElem?_getD, xE_setI, xsz_setI, xsl_setI, xtag_setI, xown_setI, xlen_setI, xE_setR, xsz_setR, xsl_setR, xtag_setR, xown_setR, xlen_setR, xE_setW, xsz_setW, xsl_setW, xtag_setW, xown_setW, xlen_setW, xi_setR, xi_setW, xr_setI, xr_setW, xww_setI, xww_setR, xi_setI, xr_setR, xww_setW, xE_new, xsz_new, xsl_new, q1, q2, q3, q4, q5, w1, xsub]; done) | (simp [-List.getD_eq_getElem?_getD, xE_setI, xsz_setI, xsl_setI, xtag_setI, xown_setI, xlen_setI, xE_setR, xsz_setR, xsl_setR, xtag_setR, xown_setR, xlen_setR, xE_setW, xsz_setW, xsl_setW, xtag_setW, xown_setW, xlen_setW, xi_setR, xi_setW, xr_setI, xr_setW, xww_setI, xww_setR, xi_setI, xr_setR, xww_setW, xE_new, xsz_new, xsl_new, q1, q2, q3, q4, q5, w1] <;> rfl)) (by simp [-List.getD_eq_getElem?_getD, xE_setI, xsz_setI, xsl_setI, xtag_setI, xown_setI, xlen_setI, xE_setR, xsz_setR, xsl_setR, xtag_setR, xown_setR, xlen_setR, xE_setW, xsz_setW, xsl_setW, xtag_setW, xown_setW, xlen_setW, xi_setR, xi_setW, xr_setI, xr_setW, xww_setI, xww_setR, xi_setI, xr_setR, xww_setW, xE_new, xsz_new, xsl_new, q1, q2, q3, q4, q5, w1]) ?_
  refine xw_alen (q := 2) (pc := 21) dJ9_getBytes_21 (by simp [-List.getD_eq_getElem?_getD, xE_setI, xsz_setI, xsl_setI, xtag_setI, xown_setI, xlen_setI, xE_setR, xsz_setR, xsl_setR, xtag_setR, xown_setR, xlen_setR, xE_setW, xsz_setW, xsl_setW, xtag_setW, xown_setW, xlen_setW, xi_setR, xi_setW, xr_setI, xr_setW, xww_setI, xww_setR, xi_setI, xr_setR, xww_setW, xE_new, xsz_new, xsl_new, q1, q2, q3, q4, q5, w1]) (by first | decide | omega) ?_
  rw [show xlen _ sv = k from by simp [-List.getD_eq_getElem?_getD, xE_setI, xsz_setI, xsl_setI, xtag_setI, xown_setI, xlen_setI, xE_setR, xsz_setR, xsl_setR, xtag_setR, xown_setR, xlen_setR, xE_setW, xsz_setW, xsl_setW, xtag_setW, xown_setW, xlen_setW, xi_setR, xi_setW, xr_setI, xr_setW, xww_setI, xww_setR, xi_setI, xr_setR, xww_setW, xE_new, xsz_new, xsl_new, q1, q2, q3, q4, q5, w1]]
  refine xw_copyI (q := 2) (n := k) (sp := 0) (dp := p) (pc := 22) dJ9_getBytes_22 q372 (by decide) (by exact q4) (by exact w1) (by exact w2) (by rw [q5]; omega) (by omega) (by exact Nat.le_of_ble_eq_true rfl) ?_
  refine xw_goto (pc := 25) 43 dJ9_getBytes_25 rfl ?_
  refine xw_vret (pc := 43) dJ9_getBytes_43 rfl ?_
  exact ⟨rfl, rfl⟩

theorem SP_J7_inflateIfNeededFor {d : Nat} {g : xG} {b : Nat} {s sv k : Nat} {cs : Nat → Nat} (hT : xStr g s sv k cs) (s1 : xtag g b = 19) (s4 : xi g b 1 = nI 0) : XM M_J7_inflateIfNeededFor (d + 1) [.ref b, .ref s] g (xOne none g) := by
  have hT0 := hT
  obtain ⟨q1, q2, q3, q4, q5, q6⟩ := hT
  refine xm_of (by decide +kernel) (Nat.le_of_ble_eq_true rfl) ?_
  show XW _ _ 0 [(0, _), (1, _)] [] _ _
  refine xw_gets (i := 7) (pc := 0) dJ7_inflateIfNeededFor_0 rfl q229 ?_
  refine xw_if_eq (pc := 3) 21 dJ7_inflateIfNeededFor_3 rfl (fun hb => absurd hb (by decide)) (fun _ => ?_)
  refine xw_aload_n (pc := 6) dJ7_inflateIfNeededFor_6 0 rfl ?_
  refine xw_getNat (k := 0) (pc := 7) fd_J7_22 dJ7_inflateIfNeededFor_7 (by first | assumption | (simp [-List.getD_eq_getElem?_getD, xE_setI, xsz_setI, xsl_setI, xtag_setI, xown_setI, xlen_setI, xE_setR, xsz_setR, xsl_setR, xtag_setR, xown_setR, xlen_setR, xE_setW, xsz_setW, xsl_setW, xtag_setW, xown_setW, xlen_setW, xi_setR, xi_setW, xr_setI, xr_setW, xww_setI, xww_setR, xi_setI, xr_setR, xww_setW, xE_new, xsz_new, xsl_new, s1, s4, xsub]; done) | (simp [-List.getD_eq_getElem?_getD, xE_setI, xsz_setI, xsl_setI, xtag_setI, xown_setI, xlen_setI, xE_setR, xsz_setR, xsl_setR, xtag_setR, xown_setR, xlen_setR, xE_setW, xsz_setW, xsl_setW, xtag_setW, xown_setW, xlen_setW, xi_setR, xi_setW, xr_setI, xr_setW, xww_setI, xww_setR, xi_setI, xr_setR, xww_setW, xE_new, xsz_new, xsl_new, s1, s4] <;> rfl)) (by simp [-List.getD_eq_getElem?_getD, xE_setI, xsz_setI, xsl_setI, xtag_setI, xown_setI, xlen_setI, xE_setR, xsz_setR, xsl_setR, xtag_setR, xown_setR, xlen_setR, xE_setW, xsz_setW, xsl_setW, xtag_setW, xown_setW, xlen_setW, xi_setR, xi_setW, xr_setI, xr_setW, xww_setI, xww_setR, xi_setI, xr_setR, xww_setW, xE_new, xsz_new, xsl_new, s1, s4]) ?_
  refine xw_aload_n (pc := 10) dJ7_inflateIfNeededFor_10 1 rfl ?_
  refine xw_callV (pc := 11) (xr_V (as := []) ok_J9_coder rfl (by decide) q348 q336 q337 (by rw [q1]; rfl) (by rw [q1]; rfl) dJ7_inflateIfNeededFor_11 rfl rfl (Nat.le_of_ble_eq_true rfl)) (SP_J9_coder hT0) ?_
  refine xw_icmp_eq (pc := 14) 21 dJ7_inflateIfNeededFor_14 rfl (fun _ => ?_) (fun hb => absurd hb (by decide))
  refine xw_vret (pc := 21) dJ7_inflateIfNeededFor_21 rfl ?_
  exact ⟨rfl, rfl⟩

theorem SP_J7_putStringAt {d : Nat} {g : xG} {o b v n : Nat} {ch : Nat → Nat} (hS : xBL g o b v n ch) (ho : o ≠ 0) {s sv k : Nat} {cs : Nat → Nat} (hT : xStr g s sv k cs) (hl : n + k ≤ xlen g v) : XM M_J7_putStringAt (d + 2) [.ref b, .int (nI n), .ref s] g (xOne none (xPut g v (xcI (xc g v) (va_cpy (xi g sv) (xi g v) 0 n k)))) := by
  have hS0 := hS
  obtain ⟨⟨s1, s2, s3, s7, s5, s6⟩, s4, s8, s9, s10⟩ := hS
  have hT0 := hT
  obtain ⟨q1, q2, q3, q4, q5, q6⟩ := hT
  refine xm_of (by decide +kernel) (Nat.le_of_ble_eq_true rfl) ?_
  show XW _ _ 0 [(0, _), (1, _), (2, _)] [] _ _
  refine xw_aload_n (pc := 0) dJ7_putStringAt_0 0 rfl ?_
  refine xw_aload_n (pc := 1) dJ7_putStringAt_1 2 rfl ?_
  refine xw_callU (pc := 2) (xr_UP (as := [_]) ok_J7_inflateIfNeededFor rfl (by decide) q344 q2770 q347 q346 (by rw [s1]; rfl) (by rw [s1]; exact q221) q345 dJ7_putStringAt_2 rfl rfl (Nat.le_of_ble_eq_true rfl)) (SP_J7_inflateIfNeededFor hT0 s1 s4) ?_
  refine xw_aload_n (pc := 5) dJ7_putStringAt_5 2 rfl ?_
  refine xw_aload_n (pc := 6) dJ7_putStringAt_6 0 rfl ?_
  refine xw_getS (b := v) (pc := 7) fd_J7_15 dJ7_putStringAt_7 (by first | assumption | (simp [-List.getD_eq_getElem?_getD, xE_setI, xsz_setI, xsl_setI, xtag_setI, xown_setI, xlen_setI, xE_setR, xsz_setR, xsl_setR, xtag_setR, xown_setR, xlen_setR, xE_setW, xsz_setW, xsl_setW, xtag_setW, xown_setW, xlen_setW, xi_setR, xi_setW, xr_setI, xr_setW, xww_setI, xww_setR, xi_setI, xr_setR, xww_setW, xE_new, xsz_new, xsl_new, s1, s3, s5, s4, xsub]; done) | (simp [-List.getD_eq_getElem?_getD, xE_setI, xsz_setI, xsl_setI, xtag_setI, xown_setI, xlen_setI, xE_setR, xsz_setR, xsl_setR, xtag_setR, xown_setR, xlen_setR, xE_setW, xsz_setW, xsl_setW, xtag_setW, xown_setW, xlen_setW, xi_setR, xi_setW, xr_setI, xr_setW, xww_setI, xww_setR, xi_setI, xr_setR, xww_setW, xE_new, xsz_new, xsl_new, s1, s3, s5, s4] <;> rfl)) (by simp [-List.getD_eq_getElem?_getD, xE_setI, xsz_setI, xsl_setI, xtag_setI, xown_setI, xlen_setI, xE_setR, xsz_setR, xsl_setR, xtag_setR, xown_setR, xlen_setR, xE_setW, xsz_setW, xsl_setW, xtag_setW, xown_setW, xlen_setW, xi_setR, xi_setW, xr_setI, xr_setW, xww_setI, xww_setR, xi_setI, xr_setR, xww_setW, xE_new, xsz_new, xsl_new, s1, s3, s5, s4]) ?_
  refine xw_iload_n (pc := 10) dJ7_putStringAt_10 1 rfl ?_
  refine xw_aload_n (pc := 11) dJ7_putStringAt_11 0 rfl ?_
  refine xw_getNat (k := 0) (pc := 12) fd_J7_22 dJ7_putStringAt_12 (by first | assumption | (simp [-List.getD_eq_getElem?_getD, xE_setI, xsz_setI, xsl_setI, xtag_setI, xown_setI, xlen_setI, xE_setR, xsz_setR, xsl_setR, xtag_setR, xown_setR, xlen_setR, xE_setW, xsz_setW, xsl_setW, xtag_setW, xown_setW, xlen_setW, xi_setR, xi_setW, xr_setI, xr_setW, xww_setI, xww_setR, xi_setI, xr_setR, xww_setW, xE_new, xsz_new, xsl_new, s1, s3, s5, s4, xsub]; done) | (simp [-List.getD_eq_getElem?_getD, xE_setI, xsz_setI, xsl_setI, xtag_setI, xown_setI, xlen_setI, xE_setR, xsz_setR, xsl_setR, xtag_setR, xown_setR, xlen_setR, xE_setW, xsz_setW, xsl_setW, xtag_setW, xown_setW, xlen_setW, xi_setR, xi_setW, xr_setI, xr_setW, xww_setI, xww_setR, xi_setI, xr_setR, xww_setW, xE_new, xsz_new, xsl_new, s1, s3, s5, s4] <;> rfl)) (by simp [-List.getD_eq_getElem?_getD, xE_setI, xsz_setI, xsl_setI, xtag_setI, xown_setI, xlen_setI, xE_setR, xsz_setR, xsl_setR, xtag_setR, xown_setR, xlen_setR, xE_setW, xsz_setW, xsl_setW, xtag_setW, xown_setW, xlen_setW, xi_setR, xi_setW, xr_setI, xr_setW, xww_setI, xww_setR, xi_setI, xr_setR, xww_setW, xE_new, xsz_new, xsl_new, s1, s3, s5, s4]) ?_
  refine xw_callU (pc := 15) (xr_V (as := [_, _, _]) ok_J9_getBytes rfl (by decide) q368 q369 q370 (by rw [q1]; rfl) (by rw [q1]; rfl) dJ7_putStringAt_15 rfl rfl (Nat.le_of_ble_eq_true rfl)) (SP_J9_getBytes hT0 s5 (by rw [s6]; exact ho) hl (by omega)) ?_
  refine xw_vret (pc := 18) dJ7_putStringAt_18 rfl ?_
  exact ⟨rfl, rfl⟩

theorem SP_J7_append {d : Nat} {g : xG} {o b v n : Nat} {ch : Nat → Nat} (hS : xBL g o b v n ch) (ho : o ≠ 0) {s sv k : Nat} {cs : Nat → Nat} (hT : xStr g s sv k cs) (n1 : xown g s ≠ o) (n2 : xown g sv ≠ o) (hl : n + k ≤ 300) : XM M_J7_append (d + 5) [.ref b, .ref s] g (xVal (.ref b) (fun g' => ∃ w, xBL g' o b w (n + k) (chA ch n cs) ∧ xFr (oEq o) 1300 g g')) := by
  have hS0 := hS
  obtain ⟨⟨s1, s2, s3, s7, s5, s6⟩, s4, s8, s9, s10⟩ := hS
  have hT0 := hT
  obtain ⟨q1, q2, q3, q4, q5, q6⟩ := hT
  refine xm_of (by decide +kernel) (Nat.le_of_ble_eq_true rfl) ?_
  show XW _ _ 0 [(0, _), (1, _)] [] _ _
  refine xw_aload_n (pc := 0) dJ7_append_0 1 rfl ?_
  refine xw_ifnonnull (pc := 1) 9 dJ7_append_1 rfl ?_
  refine xw_aload_n (pc := 9) dJ7_append_9 1 rfl ?_
  refine xw_callV (pc := 10) (xr_V (as := []) ok_J9_length rfl (by decide) q331 q332 q333 (by rw [q1]; rfl) (by rw [q1]; rfl) dJ7_append_10 rfl rfl (Nat.le_of_ble_eq_true rfl)) (SP_J9_length hT0 (by omega)) ?_
  refine xw_istore_n (l' := [(2, _), (0, _), (1, _)]) (pc := 13) dJ7_append_13 rfl (by decide) rfl ?_
  refine xw_aload_n (pc := 14) dJ7_append_14 1 rfl ?_
  refine xw_aload_n (pc := 15) dJ7_append_15 1 rfl ?_
  refine xw_getNat (k := n) (pc := 16) fd_J7_79 dJ7_append_16 (by first | assumption | (simp [-List.getD_eq_getElem?_getD, xE_setI, xsz_setI, xsl_setI, xtag_setI, xown_setI, xlen_setI, xE_setR, xsz_setR, xsl_setR, xtag_setR, xown_setR, xlen_setR, xE_setW, xsz_setW, xsl_setW, xtag_setW, xown_setW, xlen_setW, xi_setR, xi_setW, xr_setI, xr_setW, xww_setI, xww_setR, xi_setI, xr_setR, xww_setW, xE_new, xsz_new, xsl_new, s1, s7, xsub]; done) | (simp [-List.getD_eq_getElem?_getD, xE_setI, xsz_setI, xsl_setI, xtag_setI, xown_setI, xlen_setI, xE_setR, xsz_setR, xsl_setR, xtag_setR, xown_setR, xlen_setR, xE_setW, xsz_setW, xsl_setW, xtag_setW, xown_setW, xlen_setW, xi_setR, xi_setW, xr_setI, xr_setW, xww_setI, xww_setR, xi_setI, xr_setR, xww_setW, xE_new, xsz_new, xsl_new, s1, s7] <;> rfl)) (by simp [-List.getD_eq_getElem?_getD, xE_setI, xsz_setI, xsl_setI, xtag_setI, xown_setI, xlen_setI, xE_setR, xsz_setR, xsl_setR, xtag_setR, xown_setR, xlen_setR, xE_setW, xsz_setW, xsl_setW, xtag_setW, xown_setW, xlen_setW, xi_setR, xi_setW, xr_setI, xr_setW, xww_setI, xww_setR, xi_setI, xr_setR, xww_setW, xE_new, xsz_new, xsl_new, s1, s7]) ?_
  refine xw_iload_n (pc := 19) dJ7_append_19 0 rfl ?_
  refine xn_iadd (pc := 20) dJ7_append_20 ?_
  refine xw_callH (pc := 21) (xr_UP (as := [_]) ok_J7_ensureCapacityInternal rfl (by decide) q265 q2767 q268 q267 (by rw [s1]; rfl) (by rw [s1]; exact q221) q266 dJ7_append_21 rfl rfl (Nat.le_of_ble_eq_true rfl)) (SP_J7_ensure_0 (d := d) hS0 ho (by omega)) ?_
  intro g21 hc21 hm21
  obtain ⟨v21, hB21, hl21, hF21⟩ := hc21
  have hB210 := hB21
  have hT21 := hT0.fr hF21 n1 n2
  obtain ⟨⟨t1, t2, t3, t7, t5, t6⟩, t4, t8, t9, t10⟩ := hB21
  have t2n : xown g21 b ≠ 0 := by rw [t2]; exact ho
  have eb : xc (xPut g21 v21 (xcI (xc g21 v21) (va_cpy (xi g21 sv) (xi g21 v21) 0 n k))) b = xc g21 b := xc_putN hB210.1.ne
  have eb1 : xtag (xPut g21 v21 (xcI (xc g21 v21) (va_cpy (xi g21 sv) (xi g21 v21) 0 n k))) b = 19 := (congrArg (fun z : xCell => z.1) eb).trans t1
  have eb2 : xown (xPut g21 v21 (xcI (xc g21 v21) (va_cpy (xi g21 sv) (xi g21 v21) 0 n k))) b ≠ 0 := by rw [show xown (xPut g21 v21 (xcI (xc g21 v21) (va_cpy (xi g21 sv) (xi g21 v21) 0 n k))) b = xown g21 b from congrArg (fun z : xCell => z.2.1) eb]; exact t2n
  have eb3 : xi (xPut g21 v21 (xcI (xc g21 v21) (va_cpy (xi g21 sv) (xi g21 v21) 0 n k))) b 3 = nI n := (xi_of eb _).trans t7
  refine xw_aload_n (pc := 24) dJ7_append_24 1 rfl ?_
  refine xw_aload_n (pc := 25) dJ7_append_25 1 rfl ?_
  refine xw_getNat (k := n) (pc := 26) fd_J7_79 dJ7_append_26 (by first | assumption | (simp [-List.getD_eq_getElem?_getD, xE_setI, xsz_setI, xsl_setI, xtag_setI, xown_setI, xlen_setI, xE_setR, xsz_setR, xsl_setR, xtag_setR, xown_setR, xlen_setR, xE_setW, xsz_setW, xsl_setW, xtag_setW, xown_setW, xlen_setW, xi_setR, xi_setW, xr_setI, xr_setW, xww_setI, xww_setR, xi_setI, xr_setR, xww_setW, xE_new, xsz_new, xsl_new, s1, s7, t1, t7, t2n, eb1, eb2, eb3, xsub]; done) | (simp [-List.getD_eq_getElem?_getD, xE_setI, xsz_setI, xsl_setI, xtag_setI, xown_setI, xlen_setI, xE_setR, xsz_setR, xsl_setR, xtag_setR, xown_setR, xlen_setR, xE_setW, xsz_setW, xsl_setW, xtag_setW, xown_setW, xlen_setW, xi_setR, xi_setW, xr_setI, xr_setW, xww_setI, xww_setR, xi_setI, xr_setR, xww_setW, xE_new, xsz_new, xsl_new, s1, s7, t1, t7, t2n, eb1, eb2, eb3] <;> rfl)) (by simp [-List.getD_eq_getElem?_getD, xE_setI, xsz_setI, xsl_setI, xtag_setI, xown_setI, xlen_setI, xE_setR, xsz_setR, xsl_setR, xtag_setR, xown_setR, xlen_setR, xE_setW, xsz_setW, xsl_setW, xtag_setW, xown_setW, xlen_setW, xi_setR, xi_setW, xr_setI, xr_setW, xww_setI, xww_setR, xi_setI, xr_setR, xww_setW, xE_new, xsz_new, xsl_new, s1, s7, t1, t7, t2n, eb1, eb2, eb3]) ?_
  refine xw_aload_n (pc := 29) dJ7_append_29 2 rfl ?_
  refine xw_callU (pc := 30) (xr_UP (as := [_, _]) ok_J7_putStringAt rfl (by decide) q340 q2769 q343 q342 (by rw [t1]; rfl) (by rw [t1]; exact q221) q341 dJ7_append_30 rfl rfl (Nat.le_of_ble_eq_true rfl)) (SP_J7_putStringAt (d := d + 2) hB210 ho hT21 (by omega)) ?_
  refine xw_aload_n (pc := 33) dJ7_append_33 1 rfl ?_
  refine xw_dup (pc := 34) dJ7_append_34 rfl ?_
  refine xw_getNat (k := n) (pc := 35) fd_J7_79 dJ7_append_35 (by first | assumption | (simp [-List.getD_eq_getElem?_getD, xE_setI, xsz_setI, xsl_setI, xtag_setI, xown_setI, xlen_setI, xE_setR, xsz_setR, xsl_setR, xtag_setR, xown_setR, xlen_setR, xE_setW, xsz_setW, xsl_setW, xtag_setW, xown_setW, xlen_setW, xi_setR, xi_setW, xr_setI, xr_setW, xww_setI, xww_setR, xi_setI, xr_setR, xww_setW, xE_new, xsz_new, xsl_new, s1, s7, t1, t7, t2n, eb1, eb2, eb3, xsub]; done) | (simp [-List.getD_eq_getElem?_getD, xE_setI, xsz_setI, xsl_setI, xtag_setI, xown_setI, xlen_setI, xE_setR, xsz_setR, xsl_setR, xtag_setR, xown_setR, xlen_setR, xE_setW, xsz_setW, xsl_setW, xtag_setW, xown_setW, xlen_setW, xi_setR, xi_setW, xr_setI, xr_setW, xww_setI, xww_setR, xi_setI, xr_setR, xww_setW, xE_new, xsz_new, xsl_new, s1, s7, t1, t7, t2n, eb1, eb2, eb3] <;> rfl)) (by simp [-List.getD_eq_getElem?_getD, xE_setI, xsz_setI, xsl_setI, xtag_setI, xown_setI, xlen_setI, xE_setR, xsz_setR, xsl_setR, xtag_setR, xown_setR, xlen_setR, xE_setW, xsz_setW, xsl_setW, xtag_setW, xown_setW, xlen_setW, xi_setR, xi_setW, xr_setI, xr_setW, xww_setI, xww_setR, xi_setI, xr_setR, xww_setW, xE_new, xsz_new, xsl_new, s1, s7, t1, t7, t2n, eb1, eb2, eb3]) ?_
  refine xw_iload_n (pc := 38) dJ7_append_38 0 rfl ?_
  refine xn_iadd (pc := 39) dJ7_append_39 ?_
  refine xw_putI (pc := 40) fd_J7_79 (xfin_of (by decide) (by decide +kernel)) dJ7_append_40 (by first | assumption | (simp [-List.getD_eq_getElem?_getD, xE_setI, xsz_setI, xsl_setI, xtag_setI, xown_setI, xlen_setI, xE_setR, xsz_setR, xsl_setR, xtag_setR, xown_setR, xlen_setR, xE_setW, xsz_setW, xsl_setW, xtag_setW, xown_setW, xlen_setW, xi_setR, xi_setW, xr_setI, xr_setW, xww_setI, xww_setR, xi_setI, xr_setR, xww_setW, xE_new, xsz_new, xsl_new, s1, s7, t1, t7, t2n, eb1, eb2, eb3, xsub]; done) | (simp [-List.getD_eq_getElem?_getD, xE_setI, xsz_setI, xsl_setI, xtag_setI, xown_setI, xlen_setI, xE_setR, xsz_setR, xsl_setR, xtag_setR, xown_setR, xlen_setR, xE_setW, xsz_setW, xsl_setW, xtag_setW, xown_setW, xlen_setW, xi_setR, xi_setW, xr_setI, xr_setW, xww_setI, xww_setR, xi_setI, xr_setR, xww_setW, xE_new, xsz_new, xsl_new, s1, s7, t1, t7, t2n, eb1, eb2, eb3] <;> rfl)) (by first | assumption | (simp [-List.getD_eq_getElem?_getD, xE_setI, xsz_setI, xsl_setI, xtag_setI, xown_setI, xlen_setI, xE_setR, xsz_setR, xsl_setR, xtag_setR, xown_setR, xlen_setR, xE_setW, xsz_setW, xsl_setW, xtag_setW, xown_setW, xlen_setW, xi_setR, xi_setW, xr_setI, xr_setW, xww_setI, xww_setR, xi_setI, xr_setR, xww_setW, xE_new, xsz_new, xsl_new, s1, s7, t1, t7, t2n, eb1, eb2, eb3]; done) | (simp [-List.getD_eq_getElem?_getD, xE_setI, xsz_setI, xsl_setI, xtag_setI, xown_setI, xlen_setI, xE_setR, xsz_setR, xsl_setR, xtag_setR, xown_setR, xlen_setR, xE_setW, xsz_setW, xsl_setW, xtag_setW, xown_setW, xlen_setW, xi_setR, xi_setW, xr_setI, xr_setW, xww_setI, xww_setR, xi_setI, xr_setR, xww_setW, xE_new, xsz_new, xsl_new, s1, s7, t1, t7, t2n, eb1, eb2, eb3]; assumption)) ?_
  refine xw_aload_n (pc := 43) dJ7_append_43 1 rfl ?_
  refine xw_aret (pc := 44) (.object "java/lang/AbstractStringBuilder") dJ7_append_44 rfl ?_
  refine ⟨rfl, v21, hB210.app (by omega) (fun j hj => (q6 j hj).1) (fun j hj => ?_) (fun j hj => ?_), (hF21.put (by rfl) (by rfl) (by rfl) (Or.inr t6)).si (Or.inr (by rw [xown_put (by rfl)]; exact t2))⟩
  · unfold va_cpy
    rw [if_pos ⟨by omega, by omega⟩, show 0 + (n + j - n) = j from by omega]
    exact (hT21.2.2.2.2.2 j hj).2
  · unfold va_cpy
    rw [if_neg (by omega)]

theorem SP_J8_append {d : Nat} {g : xG} {o b v n : Nat} {ch : Nat → Nat} (hS : xBL g o b v n ch) (ho : o ≠ 0) {s sv k : Nat} {cs : Nat → Nat} (hT : xStr g s sv k cs) (n1 : xown g s ≠ o) (n2 : xown g sv ≠ o) (hl : n + k ≤ 300) : XM M_J8_append (d + 6) [.ref b, .ref s] g (xVal (.ref b) (fun g' => ∃ w, xBL g' o b w (n + k) (chA ch n cs) ∧ xFr (oEq o) 1300 g g')) := by
  refine xm_of (by decide +kernel) (Nat.le_of_ble_eq_true rfl) ?_
  show XW _ _ 0 [(0, _), (1, _)] [] _ _
  refine xw_aload_n (pc := 0) dJ8_append_0 0 rfl ?_
  refine xw_aload_n (pc := 1) dJ8_append_1 1 rfl ?_
  refine xw_callF (pc := 2) (xr_SU (as := [_]) ok_J7_append rfl (by decide) q258 q2765 q251 q259 (by decide) (by exact hS.1.1) dJ8_append_2 rfl rfl (Nat.le_of_ble_eq_true rfl)) (SP_J7_append hS ho hT n1 n2 hl) ?_
  intro g2 hc2 hm2
  refine xw_pop (pc := 5) dJ8_append_5 rfl ?_
  refine xw_aload_n (pc := 6) dJ8_append_6 0 rfl ?_
  refine xw_aret (pc := 7) (.object "java/lang/StringBuilder") dJ8_append_7 rfl ?_
  exact ⟨rfl, hc2⟩

