/-! JDK 11: StringBuilder: append a small number -/
set_option maxRecDepth 100000
/-- the digits' tables -/
def xDig (g : xG) : Prop := (xtag g ((xE g).2.2.1 5) = 103 ∧ xlen g ((xE g).2.2.1 5) = 100 ∧ xown g ((xE g).2.2.1 5) = 0 ∧ ∀ j, j < 100 → xi g ((xE g).2.2.1 5) j = bt (48 + j % 10)) ∧ (xtag g ((xE g).2.2.1 6) = 103 ∧ xlen g ((xE g).2.2.1 6) = 100 ∧ xown g ((xE g).2.2.1 6) = 0 ∧ ∀ j, j < 100 → xi g ((xE g).2.2.1 6) j = bt (48 + j / 10))
theorem xDig.fr {g g' : xG} {N : Nat} {O : Nat → Prop} (h : xDig g) (F : xFr O N g g') (h0 : ¬ O 0) : xDig g' := by
  obtain ⟨⟨a1, a2, a3, a4⟩, b1, b2, b3, b4⟩ := h
  have ha : (xE g).2.2.1 5 < xsz g := xlt (by rw [a1]; decide)
  have hb : (xE g).2.2.1 6 < xsz g := xlt (by rw [b1]; decide)
  unfold xDig
  rw [F.e]
  exact ⟨⟨(F.tag ha).trans a1, (F.len ha).trans a2, (F.own ha).trans a3, fun j hj => (F.i' ha (by rw [a3]; exact h0)).trans (a4 j hj)⟩, (F.tag hb).trans b1, (F.len hb).trans b2, (F.own hb).trans b3, fun j hj => (F.i' hb (by rw [b3]; exact h0)).trans (b4 j hj)⟩
/-- the chars of a number below 100 -/
def dgN (k : Nat) : Nat := if k < 10 then 1 else 2
def dgC (k : Nat) : Nat → Nat := fun j => if k < 10 then 48 + k else if j = 0 then 48 + k / 10 else 48 + k % 10
theorem ng_le {m : Int32} : ∀ k : Fin 100, (-(nI k.val) ≤ (-10 : Int32)) ↔ 10 ≤ k.val := by decide +kernel
theorem ng_a {k : Nat} (h : k < 10) : ¬ (-(nI k) ≤ (-10 : Int32)) := fun h9 => by have := (ng_le (m := 0) ⟨k, by omega⟩).mp h9; simp only at this; omega
theorem ng_b {k : Nat} (h : 10 ≤ k) (h2 : k < 100) : -(nI k) ≤ (-10 : Int32) := (ng_le (m := 0) ⟨k, h2⟩).mpr h
theorem ng_c0 : ∀ k : Fin 100, ¬ (-(nI k.val) ≤ nI 10 * (-10 : Int32)) := by decide +kernel
theorem ng_d0 : ∀ k : Fin 100, (-(nI k.val) > (-100 : Int32)) := by decide +kernel
theorem ng_e0 : ∀ k : Fin 100, (-(nI k.val) ≥ (-9 : Int32)) ↔ k.val < 10 := by decide +kernel
theorem ng_ng {x : Int32} : -(-x) = x := Int32.neg_neg
theorem xBL.app2 {g g1 : xG} {o b v n k : Nat} {ch cs : Nat → Nat} (h : xBL g o b v n ch) (eb : xc g1 b = xc g b) (et : xtag g1 v = 103) (eo : xown g1 v = o) (el : xlen g1 v = xlen g v) (hl : n + k ≤ xlen g v) (h1 : ∀ j, j < k → cs j < 256) (h2 : ∀ j, j < k → xi g1 v (n + j) = bt (cs j)) (h3 : ∀ j, j < n → xi g1 v j = xi g v j) : xBL (xsetI g1 b 3 (nI (n + k))) o b v (n + k) (chA ch n cs) := by
  have hn := h.1.ne
  obtain ⟨⟨a1, a2, a3, a4, a5, a6⟩, b1, b2, b3, b4⟩ := h
  have tb : xtag g1 b = 19 := (congrArg (fun z : xCell => z.1) eb).trans a1
  refine ⟨⟨by rw [xtag_setI]; exact tb, by rw [xown_setI]; exact (congrArg (fun z : xCell => z.2.1) eb).trans a2, by rw [xr_setI]; exact (congrArg (fun z : xCell => z.2.2.2.2.1 0) eb).trans a3, xi_setIS (by rw [tb]; decide), by rw [xtag_setI]; exact et, by rw [xown_setI]; exact eo⟩, (xi_setIK (by decide)).trans ((xi_of eb _).trans b1), by rw [xlen_setI, el]; exact hl, by rw [xlen_setI, el]; exact b3, fun j hj => ?_⟩
  have e1 : xi (xsetI g1 b 3 (nI (n + k))) v j = xi g1 v j := xi_of (xc_setI (Ne.symm hn)) _
  rw [e1]
  unfold chA
  by_cases hj2 : j < n
  · rw [if_pos hj2]
    exact ⟨(b4 j hj2).1, (h3 j hj2).trans (b4 j hj2).2⟩
  · rw [if_neg hj2]
    have e2 := h2 (j - n) (by omega)
    rw [show n + (j - n) = j from by omega] at e2
    exact ⟨h1 _ (by omega), e2⟩

theorem lp2_J16_stringSize {d : Nat} {g : xG} {k : Nat} (hk : k < 100) : XW M_J16_stringSize d 16 [(3, .int (nI 2)), (2, .int (nI 10 * (-10 : Int32))), (1, .int (nI 0)), (0, .int (-(nI k)))] [] g (xOne (some (.int (nI 2))) g) := by
  refine xw_iload_n (pc := 16) dJ16_stringSize_16 0 rfl ?_
  refine xw_bipush (v := nI 10) (pc := 17) dJ16_stringSize_17 (by decide +kernel) ?_
  refine xw_icmp_ge (pc := 19) 42 dJ16_stringSize_19 rfl (fun hb => absurd hb (by decide)) (fun _ => ?_)
  refine xw_iload_n (pc := 22) dJ16_stringSize_22 3 rfl ?_
  refine xw_iload_n (pc := 23) dJ16_stringSize_23 1 rfl ?_
  refine xw_icmp_le (pc := 24) 31 dJ16_stringSize_24 rfl (fun hb24 => ?_) (fun hb24 => ?_)
  · exfalso
    exact ng_c0 ⟨k, hk⟩ hb24
  refine xw_iload_n (pc := 27) dJ16_stringSize_27 0 rfl ?_
  refine xw_iload_n (pc := 28) dJ16_stringSize_28 2 rfl ?_
  refine xn_iadd (pc := 29) dJ16_stringSize_29 ?_
  refine xw_iret (pc := 30) .int dJ16_stringSize_30 rfl ?_ 
  exact ⟨rfl, rfl⟩
theorem lp1_J16_stringSizeA {d : Nat} {g : xG} {k : Nat} (hk : k < 10) : XW M_J16_stringSize d 16 [(3, .int (nI 1)), (2, .int (-10 : Int32)), (1, .int (nI 0)), (0, .int (-(nI k)))] [] g (xOne (some (.int (nI 1))) g) := by
  refine xw_iload_n (pc := 16) dJ16_stringSize_16 0 rfl ?_
  refine xw_bipush (v := nI 10) (pc := 17) dJ16_stringSize_17 (by decide +kernel) ?_
  refine xw_icmp_ge (pc := 19) 42 dJ16_stringSize_19 rfl (fun hb => absurd hb (by decide)) (fun _ => ?_)
  refine xw_iload_n (pc := 22) dJ16_stringSize_22 3 rfl ?_
  refine xw_iload_n (pc := 23) dJ16_stringSize_23 1 rfl ?_
  refine xw_icmp_le (pc := 24) 31 dJ16_stringSize_24 rfl (fun hb24 => ?_) (fun hb24 => ?_)
  · exfalso
    exact ng_a hk hb24
  refine xw_iload_n (pc := 27) dJ16_stringSize_27 0 rfl ?_
  refine xw_iload_n (pc := 28) dJ16_stringSize_28 2 rfl ?_
  refine xn_iadd (pc := 29) dJ16_stringSize_29 ?_
  refine xw_iret (pc := 30) .int dJ16_stringSize_30 rfl ?_ 
  exact ⟨rfl, rfl⟩
theorem lp1_J16_stringSizeB {d : Nat} {g : xG} {k : Nat} (hk1 : 10 ≤ k) (hk : k < 100) : XW M_J16_stringSize d 16 [(3, .int (nI 1)), (2, .int (-10 : Int32)), (1, .int (nI 0)), (0, .int (-(nI k)))] [] g (xOne (some (.int (nI 2))) g) := by
  refine xw_iload_n (pc := 16) dJ16_stringSize_16 0 rfl ?_
  refine xw_bipush (v := nI 10) (pc := 17) dJ16_stringSize_17 (by decide +kernel) ?_
  refine xw_icmp_ge (pc := 19) 42 dJ16_stringSize_19 rfl (fun hb => absurd hb (by decide)) (fun _ => ?_)
  refine xw_iload_n (pc := 22) dJ16_stringSize_22 3 rfl ?_
  refine xw_iload_n (pc := 23) dJ16_stringSize_23 1 rfl ?_
  refine xw_icmp_le (pc := 24) 31 dJ16_stringSize_24 rfl (fun hb24 => ?_) (fun hb24 => ?_)
  rotate_left
  · exfalso
    exact hb24 (ng_b hk1 hk)
  refine xw_bipush (v := nI 10) (pc := 31) dJ16_stringSize_31 (by decide +kernel) ?_
  refine xw_iload_n (pc := 33) dJ16_stringSize_33 1 rfl ?_
  refine xw_imul (pc := 34) dJ16_stringSize_34 ?_
  refine xw_istore_n (l' := [(2, _), (3, _), (1, _), (0, _)]) (pc := 35) dJ16_stringSize_35 rfl (by decide) rfl ?_
  refine xw_iinc (v := nI (1 + 1)) (l' := [(3, _), (2, _), (1, _), (0, _)]) (pc := 36) dJ16_stringSize_36 1 rfl (nI_add _ 1) (by decide) rfl ?_
  refine xw_goto (pc := 39) 16 dJ16_stringSize_39 rfl ?_
  exact lp2_J16_stringSize hk
theorem SP_J16_stringSizeA {d : Nat} {g : xG} {k : Nat} (hk : k < 10) : XM M_J16_stringSize d [.int (nI k)] g (xOne (some (.int (nI 1))) g) := by
  refine xm_of (by decide +kernel) (Nat.le_of_ble_eq_true rfl) ?_
  show XW _ _ 0 [(0, _)] [] _ _
  refine xw_iconst (v := nI 1) (pc := 0) dJ16_stringSize_0 rfl ?_
  refine xw_istore_n (l' := [(1, _), (0, _)]) (pc := 1) dJ16_stringSize_1 rfl (by decide) rfl ?_
  refine xw_iload_n (pc := 2) dJ16_stringSize_2 1 rfl ?_
  refine xw_if_lt (pc := 3) 11 dJ16_stringSize_3 rfl (fun hb3 => ?_) (fun hb3 => ?_)
  · exfalso
    replace hb3 : k < 0 := (nI_ltI (a := k) (b := 0) (by omega) (by omega)).mp hb3
    omega
  replace hb3 : ¬ (k < 0) := mt (nI_ltI (a := k) (b := 0) (by omega) (by omega)).mpr hb3
  refine xw_iconst (v := nI 0) (pc := 6) dJ16_stringSize_6 rfl ?_
  refine xw_istore_n (l' := [(1, _), (0, _)]) (pc := 7) dJ16_stringSize_7 rfl (by decide) rfl ?_
  refine xw_iload_n (pc := 8) dJ16_stringSize_8 1 rfl ?_
  refine xw_ineg (pc := 9) dJ16_stringSize_9 ?_
  refine xw_istore_n (l' := [(0, _), (1, _)]) (pc := 10) dJ16_stringSize_10 rfl (by decide) rfl ?_
  refine xw_bipush (v := -10) (pc := 11) dJ16_stringSize_11 (by decide +kernel) ?_
  refine xw_istore_n (l' := [(2, _), (0, _), (1, _)]) (pc := 13) dJ16_stringSize_13 rfl (by decide) rfl ?_
  refine xw_iconst (v := nI 1) (pc := 14) dJ16_stringSize_14 rfl ?_
  refine xw_istore_n (l' := [(3, _), (2, _), (0, _), (1, _)]) (pc := 15) dJ16_stringSize_15 rfl (by decide) rfl ?_
  refine xw_pick (pc := 16) (l' := [(3, _), (2, _), (1, _), (0, _)]) [0, 1, 3, 2] rfl ?_
  exact lp1_J16_stringSizeA hk

theorem SP_J16_stringSizeB {d : Nat} {g : xG} {k : Nat} (hk1 : 10 ≤ k) (hk : k < 100) : XM M_J16_stringSize d [.int (nI k)] g (xOne (some (.int (nI 2))) g) := by
  refine xm_of (by decide +kernel) (Nat.le_of_ble_eq_true rfl) ?_
  show XW _ _ 0 [(0, _)] [] _ _
  refine xw_iconst (v := nI 1) (pc := 0) dJ16_stringSize_0 rfl ?_
  refine xw_istore_n (l' := [(1, _), (0, _)]) (pc := 1) dJ16_stringSize_1 rfl (by decide) rfl ?_
  refine xw_iload_n (pc := 2) dJ16_stringSize_2 1 rfl ?_
  refine xw_if_lt (pc := 3) 11 dJ16_stringSize_3 rfl (fun hb3 => ?_) (fun hb3 => ?_)
  · exfalso
    replace hb3 : k < 0 := (nI_ltI (a := k) (b := 0) (by omega) (by omega)).mp hb3
    omega
  replace hb3 : ¬ (k < 0) := mt (nI_ltI (a := k) (b := 0) (by omega) (by omega)).mpr hb3
  refine xw_iconst (v := nI 0) (pc := 6) dJ16_stringSize_6 rfl ?_
  refine xw_istore_n (l' := [(1, _), (0, _)]) (pc := 7) dJ16_stringSize_7 rfl (by decide) rfl ?_
  refine xw_iload_n (pc := 8) dJ16_stringSize_8 1 rfl ?_
  refine xw_ineg (pc := 9) dJ16_stringSize_9 ?_
  refine xw_istore_n (l' := [(0, _), (1, _)]) (pc := 10) dJ16_stringSize_10 rfl (by decide) rfl ?_
  refine xw_bipush (v := -10) (pc := 11) dJ16_stringSize_11 (by decide +kernel) ?_
  refine xw_istore_n (l' := [(2, _), (0, _), (1, _)]) (pc := 13) dJ16_stringSize_13 rfl (by decide) rfl ?_
  refine xw_iconst (v := nI 1) (pc := 14) dJ16_stringSize_14 rfl ?_
  refine xw_istore_n (l' := [(3, _), (2, _), (0, _), (1, _)]) (pc := 15) dJ16_stringSize_15 rfl (by decide) rfl ?_
  refine xw_pick (pc := 16) (l' := [(3, _), (2, _), (1, _), (0, _)]) [0, 1, 3, 2] rfl ?_
  exact lp1_J16_stringSizeB hk1 hk

theorem SP_J16_getCharsA {d : Nat} {g : xG} {k e w : Nat} (hD : xDig g) (w1 : xtag g w = 103) (w2 : xown g w ≠ 0) (w3 : e ≤ xlen g w) (hk : k < 10) (he : 1 ≤ e) (he2 : e < 2 ^ 20) : XM M_J16_getChars d [.int (nI k), .int (nI e), .ref w] g (xOne (some (.int (nI (e - 1)))) (xsetI g w (e - 1) (bt (48 + k)))) := by
  obtain ⟨⟨p1, p2, p3, p4⟩, r1, r2, r3, r4⟩ := hD
  have nw5 : (xE g).2.2.1 5 ≠ w := by intro e9; rw [← e9, p3] at w2; exact w2 rfl
  have nw6 : (xE g).2.2.1 6 ≠ w := by intro e9; rw [← e9, r3] at w2; exact w2 rfl
  refine xm_of (by decide +kernel) (Nat.le_of_ble_eq_true rfl) ?_
  show XW _ _ 0 [(0, _), (1, _), (2, _)] [] _ _
  refine xw_iload_n (pc := 0) dJ16_getChars_0 1 rfl ?_
  refine xw_istore (l' := [(5, _), (0, _), (1, _), (2, _)]) (pc := 1) dJ16_getChars_1 (by decide) rfl ?_
  refine xw_iload_n (pc := 3) dJ16_getChars_3 1 rfl ?_
  refine xw_if_ge (pc := 4) 11 dJ16_getChars_4 rfl (fun hb4 => ?_) (fun hb4 => ?_)
  rotate_left
  · exfalso
    replace hb4 : ¬ (0 ≤ k) := mt (nI_leI (a := 0) (b := k) (by omega) (by omega)).mpr hb4
    omega
  replace hb4 : 0 ≤ k := (nI_leI (a := 0) (b := k) (by omega) (by omega)).mp hb4
  refine xw_iconst (v := nI 0) (pc := 11) dJ16_getChars_11 rfl ?_
  refine xw_istore (l' := [(6, _), (5, _), (0, _), (1, _), (2, _)]) (pc := 12) dJ16_getChars_12 (by decide) rfl ?_
  refine xw_iload (pc := 14) dJ16_getChars_14 0 rfl ?_
  refine xw_if_ne (pc := 16) 22 dJ16_getChars_16 rfl (fun hb => absurd hb (by decide)) (fun _ => ?_)
  refine xw_iload_n (pc := 19) dJ16_getChars_19 2 rfl ?_
  refine xw_ineg (pc := 20) dJ16_getChars_20 ?_
  refine xw_istore_n (l' := [(0, _), (6, _), (5, _), (1, _), (2, _)]) (pc := 21) dJ16_getChars_21 rfl (by decide) rfl ?_
  refine xw_iload_n (pc := 22) dJ16_getChars_22 0 rfl ?_
  refine xw_bipush (v := -100) (pc := 23) dJ16_getChars_23 (by decide +kernel) ?_
  refine xw_icmp_gt (pc := 25) 72 dJ16_getChars_25 rfl (fun hb25 => ?_) (fun hb25 => ?_)
  rotate_left
  · exfalso
    exact hb25 (ng_d0 ⟨k, by omega⟩)
  refine xw_aload_n (pc := 72) dJ16_getChars_72 4 rfl ?_
  refine xw_iinc (v := nI (e - 1)) (l' := [(5, _), (0, _), (6, _), (1, _), (2, _)]) (pc := 73) dJ16_getChars_73 2 rfl (by exact nI_dec1 (by omega)) (by decide) rfl ?_
  refine xw_iload (pc := 76) dJ16_getChars_76 0 rfl ?_
  refine xw_gets (i := 5) (pc := 78) dJ16_getChars_78 rfl q387 ?_
  refine xw_iload_n (pc := 81) dJ16_getChars_81 1 rfl ?_
  refine xw_ineg (pc := 82) dJ16_getChars_82 ?_
  rw [ng_ng]
  refine xw_bald (k := k) (pc := 83) dJ16_getChars_83 (by simp [-List.getD_eq_getElem?_getD, xE_setI, xsz_setI, xsl_setI, xtag_setI, xown_setI, xlen_setI, xE_setR, xsz_setR, xsl_setR, xtag_setR, xown_setR, xlen_setR, xE_setW, xsz_setW, xsl_setW, xtag_setW, xown_setW, xlen_setW, xi_setR, xi_setW, xr_setI, xr_setW, xww_setI, xww_setR, xi_setI, xr_setR, xww_setW, xE_new, xsz_new, xsl_new, p1, w1, w2]) rfl (by rw [p2]; omega) ?_
  rw [p4 k (by omega), Nat.mod_eq_of_lt hk]
  refine xw_bast (k := e - 1) (pc := 84) dJ16_getChars_84 (by simp [-List.getD_eq_getElem?_getD, xE_setI, xsz_setI, xsl_setI, xtag_setI, xown_setI, xlen_setI, xE_setR, xsz_setR, xsl_setR, xtag_setR, xown_setR, xlen_setR, xE_setW, xsz_setW, xsl_setW, xtag_setW, xown_setW, xlen_setW, xi_setR, xi_setW, xr_setI, xr_setW, xww_setI, xww_setR, xi_setI, xr_setR, xww_setW, xE_new, xsz_new, xsl_new, p1, w1, w2]) (by first | assumption | (simp [-List.getD_eq_getElem?_getD, xE_setI, xsz_setI, xsl_setI, xtag_setI, xown_setI, xlen_setI, xE_setR, xsz_setR, xsl_setR, xtag_setR, xown_setR, xlen_setR, xE_setW, xsz_setW, xsl_setW, xtag_setW, xown_setW, xlen_setW, xi_setR, xi_setW, xr_setI, xr_setW, xww_setI, xww_setR, xi_setI, xr_setR, xww_setW, xE_new, xsz_new, xsl_new, p1, w1, w2]; done) | (simp [-List.getD_eq_getElem?_getD, xE_setI, xsz_setI, xsl_setI, xtag_setI, xown_setI, xlen_setI, xE_setR, xsz_setR, xsl_setR, xtag_setR, xown_setR, xlen_setR, xE_setW, xsz_setW, xsl_setW, xtag_setW, xown_setW, xlen_setW, xi_setR, xi_setW, xr_setI, xr_setW, xww_setI, xww_setR, xi_setI, xr_setR, xww_setW, xE_new, xsz_new, xsl_new, p1, w1, w2]; assumption)) rfl (by omega) ?_
  rw [show (bt (48 + k)).toInt8.toInt32 = bt (48 + k) from bt_i]
  refine xw_iload_n (pc := 85) dJ16_getChars_85 1 rfl ?_
  refine xw_bipush (v := -9) (pc := 86) dJ16_getChars_86 (by decide +kernel) ?_
  refine xw_icmp_ge (pc := 88) 104 dJ16_getChars_88 rfl (fun hb88 => ?_) (fun hb88 => ?_)
  rotate_left
  · exfalso
    exact hb88 ((ng_e0 ⟨k, by omega⟩).mpr hk)
  refine xw_iload (pc := 104) dJ16_getChars_104 2 rfl ?_
  refine xw_if_eq (pc := 106) 118 dJ16_getChars_106 rfl (fun _ => ?_) (fun hb => absurd hb (by decide))
  refine xw_iload (pc := 118) dJ16_getChars_118 0 rfl ?_
  refine xw_iret (pc := 120) .int dJ16_getChars_120 rfl ?_ 
  exact ⟨rfl, rfl⟩

theorem SP_J16_getCharsB {d : Nat} {g : xG} {k e w : Nat} (hD : xDig g) (w1 : xtag g w = 103) (w2 : xown g w ≠ 0) (w3 : e ≤ xlen g w) (hk1 : 10 ≤ k) (hk : k < 100) (he : 2 ≤ e) (he2 : e < 2 ^ 20) : XM M_J16_getChars d [.int (nI k), .int (nI e), .ref w] g (xOne (some (.int (nI (e - 1 - 1)))) (xsetI (xsetI g w (e - 1) (bt (48 + k % 10))) w (e - 1 - 1) (bt (48 + k / 10)))) := by
  obtain ⟨⟨p1, p2, p3, p4⟩, r1, r2, r3, r4⟩ := hD
  have nw5 : (xE g).2.2.1 5 ≠ w := by intro e9; rw [← e9, p3] at w2; exact w2 rfl
  have nw6 : (xE g).2.2.1 6 ≠ w := by intro e9; rw [← e9, r3] at w2; exact w2 rfl
  have u1 : xi (xsetI g w (e - 1) (bt (48 + k % 10))) ((xE g).2.2.1 6) k = bt (48 + k / 10) := (xi_of (xc_setI nw6) _).trans (r4 k (by omega))
  refine xm_of (by decide +kernel) (Nat.le_of_ble_eq_true rfl) ?_
  show XW _ _ 0 [(0, _), (1, _), (2, _)] [] _ _
  refine xw_iload_n (pc := 0) dJ16_getChars_0 1 rfl ?_
  refine xw_istore (l' := [(5, _), (0, _), (1, _), (2, _)]) (pc := 1) dJ16_getChars_1 (by decide) rfl ?_
  refine xw_iload_n (pc := 3) dJ16_getChars_3 1 rfl ?_
  refine xw_if_ge (pc := 4) 11 dJ16_getChars_4 rfl (fun hb4 => ?_) (fun hb4 => ?_)
  rotate_left
  · exfalso
    replace hb4 : ¬ (0 ≤ k) := mt (nI_leI (a := 0) (b := k) (by omega) (by omega)).mpr hb4
    omega
  replace hb4 : 0 ≤ k := (nI_leI (a := 0) (b := k) (by omega) (by omega)).mp hb4
  refine xw_iconst (v := nI 0) (pc := 11) dJ16_getChars_11 rfl ?_
  refine xw_istore (l' := [(6, _), (5, _), (0, _), (1, _), (2, _)]) (pc := 12) dJ16_getChars_12 (by decide) rfl ?_
  refine xw_iload (pc := 14) dJ16_getChars_14 0 rfl ?_
  refine xw_if_ne (pc := 16) 22 dJ16_getChars_16 rfl (fun hb => absurd hb (by decide)) (fun _ => ?_)
  refine xw_iload_n (pc := 19) dJ16_getChars_19 2 rfl ?_
  refine xw_ineg (pc := 20) dJ16_getChars_20 ?_
  refine xw_istore_n (l' := [(0, _), (6, _), (5, _), (1, _), (2, _)]) (pc := 21) dJ16_getChars_21 rfl (by decide) rfl ?_
  refine xw_iload_n (pc := 22) dJ16_getChars_22 0 rfl ?_
  refine xw_bipush (v := -100) (pc := 23) dJ16_getChars_23 (by decide +kernel) ?_
  refine xw_icmp_gt (pc := 25) 72 dJ16_getChars_25 rfl (fun hb25 => ?_) (fun hb25 => ?_)
  rotate_left
  · exfalso
    exact hb25 (ng_d0 ⟨k, by omega⟩)
  refine xw_aload_n (pc := 72) dJ16_getChars_72 4 rfl ?_
  refine xw_iinc (v := nI (e - 1)) (l' := [(5, _), (0, _), (6, _), (1, _), (2, _)]) (pc := 73) dJ16_getChars_73 2 rfl (by exact nI_dec1 (by omega)) (by decide) rfl ?_
  refine xw_iload (pc := 76) dJ16_getChars_76 0 rfl ?_
  refine xw_gets (i := 5) (pc := 78) dJ16_getChars_78 rfl q387 ?_
  refine xw_iload_n (pc := 81) dJ16_getChars_81 1 rfl ?_
  refine xw_ineg (pc := 82) dJ16_getChars_82 ?_
  rw [ng_ng]
  refine xw_bald (k := k) (pc := 83) dJ16_getChars_83 (by simp [-List.getD_eq_getElem?_getD, xE_setI, xsz_setI, xsl_setI, xtag_setI, xown_setI, xlen_setI, xE_setR, xsz_setR, xsl_setR, xtag_setR, xown_setR, xlen_setR, xE_setW, xsz_setW, xsl_setW, xtag_setW, xown_setW, xlen_setW, xi_setR, xi_setW, xr_setI, xr_setW, xww_setI, xww_setR, xi_setI, xr_setR, xww_setW, xE_new, xsz_new, xsl_new, p1, r1, w1, w2]) rfl (by rw [p2]; omega) ?_
  rw [p4 k (by omega)]
  refine xw_bast (k := e - 1) (pc := 84) dJ16_getChars_84 (by simp [-List.getD_eq_getElem?_getD, xE_setI, xsz_setI, xsl_setI, xtag_setI, xown_setI, xlen_setI, xE_setR, xsz_setR, xsl_setR, xtag_setR, xown_setR, xlen_setR, xE_setW, xsz_setW, xsl_setW, xtag_setW, xown_setW, xlen_setW, xi_setR, xi_setW, xr_setI, xr_setW, xww_setI, xww_setR, xi_setI, xr_setR, xww_setW, xE_new, xsz_new, xsl_new, p1, r1, w1, w2]) (by first | assumption | (simp [-List.getD_eq_getElem?_getD, xE_setI, xsz_setI, xsl_setI, xtag_setI, xown_setI, xlen_setI, xE_setR, xsz_setR, xsl_setR, xtag_setR, xown_setR, xlen_setR, xE_setW, xsz_setW, xsl_setW, xtag_setW, xown_setW, xlen_setW, xi_setR, xi_setW, xr_setI, xr_setW, xww_setI, xww_setR, xi_setI, xr_setR, xww_setW, xE_new, xsz_new, xsl_new, p1, r1, w1, w2]; done) | (simp [-List.getD_eq_getElem?_getD, xE_setI, xsz_setI, xsl_setI, xtag_setI, xown_setI, xlen_setI, xE_setR, xsz_setR, xsl_setR, xtag_setR, xown_setR, xlen_setR, xE_setW, xsz_setW, xsl_setW, xtag_setW, xown_setW, xlen_setW, xi_setR, xi_setW, xr_setI, xr_setW, xww_setI, xww_setR, xi_setI, xr_setR, xww_setW, xE_new, xsz_new, xsl_new, p1, r1, w1, w2]; assumption)) rfl (by omega) ?_
  rw [show (bt (48 + k % 10)).toInt8.toInt32 = bt (48 + k % 10) from bt_i]
  refine xw_iload_n (pc := 85) dJ16_getChars_85 1 rfl ?_
  refine xw_bipush (v := -9) (pc := 86) dJ16_getChars_86 (by decide +kernel) ?_
  refine xw_icmp_ge (pc := 88) 104 dJ16_getChars_88 rfl (fun hb88 => ?_) (fun hb88 => ?_)
  · exfalso
    have := (ng_e0 ⟨k, by omega⟩).mp hb88; simp only at this; omega
  refine xw_aload_n (pc := 91) dJ16_getChars_91 4 rfl ?_
  refine xw_iinc (v := nI (e - 1 - 1)) (l' := [(5, _), (0, _), (6, _), (1, _), (2, _)]) (pc := 92) dJ16_getChars_92 0 rfl (by exact nI_dec1 (by omega)) (by decide) rfl ?_
  refine xw_iload (pc := 95) dJ16_getChars_95 0 rfl ?_
  refine xw_gets (i := 6) (pc := 97) dJ16_getChars_97 rfl q389 ?_
  refine xw_iload_n (pc := 100) dJ16_getChars_100 1 rfl ?_
  refine xw_ineg (pc := 101) dJ16_getChars_101 ?_
  rw [ng_ng]
  refine xw_bald (k := k) (pc := 102) dJ16_getChars_102 (by simp [-List.getD_eq_getElem?_getD, xE_setI, xsz_setI, xsl_setI, xtag_setI, xown_setI, xlen_setI, xE_setR, xsz_setR, xsl_setR, xtag_setR, xown_setR, xlen_setR, xE_setW, xsz_setW, xsl_setW, xtag_setW, xown_setW, xlen_setW, xi_setR, xi_setW, xr_setI, xr_setW, xww_setI, xww_setR, xi_setI, xr_setR, xww_setW, xE_new, xsz_new, xsl_new, p1, r1, w1, w2]) rfl (by rw [xlen_setI]; show k < xlen g ((xE g).2.2.1 6); rw [r2]; omega) ?_
  rw [show xi (xsetI g w (e - 1) (bt (48 + k % 10))) ((xE (xsetI g w (e - 1) (bt (48 + k % 10)))).2.2.1 6) k = bt (48 + k / 10) from u1]
  refine xw_bast (k := e - 1 - 1) (pc := 103) dJ16_getChars_103 (by simp [-List.getD_eq_getElem?_getD, xE_setI, xsz_setI, xsl_setI, xtag_setI, xown_setI, xlen_setI, xE_setR, xsz_setR, xsl_setR, xtag_setR, xown_setR, xlen_setR, xE_setW, xsz_setW, xsl_setW, xtag_setW, xown_setW, xlen_setW, xi_setR, xi_setW, xr_setI, xr_setW, xww_setI, xww_setR, xi_setI, xr_setR, xww_setW, xE_new, xsz_new, xsl_new, p1, r1, w1, w2]) (by first | assumption | (simp [-List.getD_eq_getElem?_getD, xE_setI, xsz_setI, xsl_setI, xtag_setI, xown_setI, xlen_setI, xE_setR, xsz_setR, xsl_setR, xtag_setR, xown_setR, xlen_setR, xE_setW, xsz_setW, xsl_setW, xtag_setW, xown_setW, xlen_setW, xi_setR, xi_setW, xr_setI, xr_setW, xww_setI, xww_setR, xi_setI, xr_setR, xww_setW, xE_new, xsz_new, xsl_new, p1, r1, w1, w2]; done) | (simp [-List.getD_eq_getElem?_getD, xE_setI, xsz_setI, xsl_setI, xtag_setI, xown_setI, xlen_setI, xE_setR, xsz_setR, xsl_setR, xtag_setR, xown_setR, xlen_setR, xE_setW, xsz_setW, xsl_setW, xtag_setW, xown_setW, xlen_setW, xi_setR, xi_setW, xr_setI, xr_setW, xww_setI, xww_setR, xi_setI, xr_setR, xww_setW, xE_new, xsz_new, xsl_new, p1, r1, w1, w2]; assumption)) rfl (by rw [xlen_setI]; omega) ?_
  rw [show (bt (48 + k / 10)).toInt8.toInt32 = bt (48 + k / 10) from bt_i]
  refine xw_iload (pc := 104) dJ16_getChars_104 2 rfl ?_
  refine xw_if_eq (pc := 106) 118 dJ16_getChars_106 rfl (fun _ => ?_) (fun hb => absurd hb (by decide))
  refine xw_iload (pc := 118) dJ16_getChars_118 0 rfl ?_
  refine xw_iret (pc := 120) .int dJ16_getChars_120 rfl ?_ 
  exact ⟨rfl, rfl⟩

theorem SP_J7_append_2A {d : Nat} {g : xG} {k : Nat} {o b v n : Nat} {ch : Nat → Nat} (hS : xBL g o b v n ch) (ho : o ≠ 0) (hD : xDig g) (hk : k < 10) (hl : n + 2 ≤ 300) : XM M_J7_append_2 (d + 5) [.ref b, .int (nI k)] g (xVal (.ref b) (fun g' => ∃ w, xBL g' o b w (n + 1) (chA ch n (dgC k)) ∧ xFr (oEq o) 1300 g g')) := by
  have hS0 := hS
  obtain ⟨⟨s1, s2, s3, s7, s5, s6⟩, s4, s8, s9, s10⟩ := hS
  refine xm_of (by decide +kernel) (Nat.le_of_ble_eq_true rfl) ?_
  show XW _ _ 0 [(0, _), (1, _)] [] _ _
  refine xw_aload_n (pc := 0) dJ7_append_2_0 0 rfl ?_
  refine xw_getNat (k := n) (pc := 1) fd_J7_79 dJ7_append_2_1 (by first | assumption | (simp [-List.getD_eq_getElem?_getD, xE_setI, xsz_setI, xsl_setI, xtag_setI, xown_setI, xlen_setI, xE_setR, xsz_setR, xsl_setR, xtag_setR, xown_setR, xlen_setR, xE_setW, xsz_setW, xsl_setW, xtag_setW, xown_setW, xlen_setW, xi_setR, xi_setW, xr_setI, xr_setW, xww_setI, xww_setR, xi_setI, xr_setR, xww_setW, xE_new, xsz_new, xsl_new, s1, s7, xsub]; done) | (simp [-List.getD_eq_getElem?_getD, xE_setI, xsz_setI, xsl_setI, xtag_setI, xown_setI, xlen_setI, xE_setR, xsz_setR, xsl_setR, xtag_setR, xown_setR, xlen_setR, xE_setW, xsz_setW, xsl_setW, xtag_setW, xown_setW, xlen_setW, xi_setR, xi_setW, xr_setI, xr_setW, xww_setI, xww_setR, xi_setI, xr_setR, xww_setW, xE_new, xsz_new, xsl_new, s1, s7] <;> rfl)) (by simp [-List.getD_eq_getElem?_getD, xE_setI, xsz_setI, xsl_setI, xtag_setI, xown_setI, xlen_setI, xE_setR, xsz_setR, xsl_setR, xtag_setR, xown_setR, xlen_setR, xE_setW, xsz_setW, xsl_setW, xtag_setW, xown_setW, xlen_setW, xi_setR, xi_setW, xr_setI, xr_setW, xww_setI, xww_setR, xi_setI, xr_setR, xww_setW, xE_new, xsz_new, xsl_new, s1, s7]) ?_
  refine xw_istore_n (l' := [(2, _), (0, _), (1, _)]) (pc := 4) dJ7_append_2_4 rfl (by decide) rfl ?_
  refine xw_iload_n (pc := 5) dJ7_append_2_5 0 rfl ?_
  refine xw_iload_n (pc := 6) dJ7_append_2_6 2 rfl ?_
  refine xw_callV (pc := 7) (xr_S (as := [_]) ok_J16_stringSize rfl (by decide) q381 q382 dJ7_append_2_7 rfl rfl (Nat.le_of_ble_eq_true rfl)) (SP_J16_stringSizeA hk) ?_
  refine xn_iadd (pc := 10) dJ7_append_2_10 ?_
  refine xw_istore_n (l' := [(3, _), (2, _), (0, _), (1, _)]) (pc := 11) dJ7_append_2_11 rfl (by decide) rfl ?_
  refine xw_aload_n (pc := 12) dJ7_append_2_12 2 rfl ?_
  refine xw_iload_n (pc := 13) dJ7_append_2_13 0 rfl ?_
  refine xw_callH (pc := 14) (xr_UP (as := [_]) ok_J7_ensureCapacityInternal rfl (by decide) q265 q2767 q268 q267 (by rw [s1]; rfl) (by rw [s1]; exact q221) q266 dJ7_append_2_14 rfl rfl (Nat.le_of_ble_eq_true rfl)) (SP_J7_ensure_0 (d := d) hS0 ho (by omega)) ?_
  intro g14 hc14 hm14
  obtain ⟨v14, hB14, hl14, hF14⟩ := hc14
  have hB140 := hB14
  have hD14 := hD.fr hF14 (by unfold oEq; omega)
  obtain ⟨⟨t1, t2, t3, t7, t5, t6⟩, t4, t8, t9, t10⟩ := hB14
  have t2n : xown g14 b ≠ 0 := by rw [t2]; exact ho
  have t6n : xown g14 v14 ≠ 0 := by rw [t6]; exact ho
  have nbv : b ≠ v14 := hB140.1.ne
  refine xw_aload_n (pc := 17) dJ7_append_2_17 2 rfl ?_
  refine xw_callV (pc := 18) (xr_U (x := ⟨"java/lang/AbstractStringBuilder", "isLatin1", "()Z"⟩) (as := []) ok_J7_isLatin1 rfl (by decide) q300 q302 (Or.inr ⟨_, _, _, q301, q304⟩) ⟨by decide, by decide, by decide +kernel⟩ q301 (by rw [t1]; rfl) (by rw [t1]; exact q303) dJ7_append_2_18 rfl rfl (Nat.le_of_ble_eq_true rfl)) (SP_J7_isLatin1_0 t1 t4) ?_
  refine xw_if_eq (pc := 21) 37 dJ7_append_2_21 rfl (fun hb => absurd hb (by decide)) (fun _ => ?_)
  refine xw_iload_n (pc := 24) dJ7_append_2_24 3 rfl ?_
  refine xw_iload_n (pc := 25) dJ7_append_2_25 0 rfl ?_
  refine xw_aload_n (pc := 26) dJ7_append_2_26 2 rfl ?_
  refine xw_getS (b := v14) (pc := 27) fd_J7_15 dJ7_append_2_27 (by first | assumption | (simp [-List.getD_eq_getElem?_getD, xE_setI, xsz_setI, xsl_setI, xtag_setI, xown_setI, xlen_setI, xE_setR, xsz_setR, xsl_setR, xtag_setR, xown_setR, xlen_setR, xE_setW, xsz_setW, xsl_setW, xtag_setW, xown_setW, xlen_setW, xi_setR, xi_setW, xr_setI, xr_setW, xww_setI, xww_setR, xi_setI, xr_setR, xww_setW, xE_new, xsz_new, xsl_new, s1, s7, t1, t3, t7, t5, t4, t2n, t6n, xsub]; done) | (simp [-List.getD_eq_getElem?_getD, xE_setI, xsz_setI, xsl_setI, xtag_setI, xown_setI, xlen_setI, xE_setR, xsz_setR, xsl_setR, xtag_setR, xown_setR, xlen_setR, xE_setW, xsz_setW, xsl_setW, xtag_setW, xown_setW, xlen_setW, xi_setR, xi_setW, xr_setI, xr_setW, xww_setI, xww_setR, xi_setI, xr_setR, xww_setW, xE_new, xsz_new, xsl_new, s1, s7, t1, t3, t7, t5, t4, t2n, t6n] <;> rfl)) (by simp [-List.getD_eq_getElem?_getD, xE_setI, xsz_setI, xsl_setI, xtag_setI, xown_setI, xlen_setI, xE_setR, xsz_setR, xsl_setR, xtag_setR, xown_setR, xlen_setR, xE_setW, xsz_setW, xsl_setW, xtag_setW, xown_setW, xlen_setW, xi_setR, xi_setW, xr_setI, xr_setW, xww_setI, xww_setR, xi_setI, xr_setR, xww_setW, xE_new, xsz_new, xsl_new, s1, s7, t1, t3, t7, t5, t4, t2n, t6n]) ?_
  refine xw_callV (pc := 30) (xr_S (as := [_, _, _]) ok_J16_getChars rfl (by decide) q384 q385 dJ7_append_2_30 rfl rfl (Nat.le_of_ble_eq_true rfl)) (SP_J16_getCharsA hD14 t5 t6n (by omega) hk (by omega) (by omega)) ?_
  refine xw_pop (pc := 33) dJ7_append_2_33 rfl ?_
  refine xw_goto (pc := 34) 48 dJ7_append_2_34 rfl ?_
  refine xw_aload_n (pc := 48) dJ7_append_2_48 2 rfl ?_
  refine xw_iload_n (pc := 49) dJ7_append_2_49 0 rfl ?_
  refine xw_putI (pc := 50) fd_J7_79 (xfin_of (by decide) (by decide +kernel)) dJ7_append_2_50 (by first | assumption | (simp [-List.getD_eq_getElem?_getD, xE_setI, xsz_setI, xsl_setI, xtag_setI, xown_setI, xlen_setI, xE_setR, xsz_setR, xsl_setR, xtag_setR, xown_setR, xlen_setR, xE_setW, xsz_setW, xsl_setW, xtag_setW, xown_setW, xlen_setW, xi_setR, xi_setW, xr_setI, xr_setW, xww_setI, xww_setR, xi_setI, xr_setR, xww_setW, xE_new, xsz_new, xsl_new, s1, s7, t1, t3, t7, t5, t4, t2n, t6n, xsub]; done) | (simp [-List.getD_eq_getElem?_getD, xE_setI, xsz_setI, xsl_setI, xtag_setI, xown_setI, xlen_setI, xE_setR, xsz_setR, xsl_setR, xtag_setR, xown_setR, xlen_setR, xE_setW, xsz_setW, xsl_setW, xtag_setW, xown_setW, xlen_setW, xi_setR, xi_setW, xr_setI, xr_setW, xww_setI, xww_setR, xi_setI, xr_setR, xww_setW, xE_new, xsz_new, xsl_new, s1, s7, t1, t3, t7, t5, t4, t2n, t6n] <;> rfl)) (by first | assumption | (simp [-List.getD_eq_getElem?_getD, xE_setI, xsz_setI, xsl_setI, xtag_setI, xown_setI, xlen_setI, xE_setR, xsz_setR, xsl_setR, xtag_setR, xown_setR, xlen_setR, xE_setW, xsz_setW, xsl_setW, xtag_setW, xown_setW, xlen_setW, xi_setR, xi_setW, xr_setI, xr_setW, xww_setI, xww_setR, xi_setI, xr_setR, xww_setW, xE_new, xsz_new, xsl_new, s1, s7, t1, t3, t7, t5, t4, t2n, t6n]; done) | (simp [-List.getD_eq_getElem?_getD, xE_setI, xsz_setI, xsl_setI, xtag_setI, xown_setI, xlen_setI, xE_setR, xsz_setR, xsl_setR, xtag_setR, xown_setR, xlen_setR, xE_setW, xsz_setW, xsl_setW, xtag_setW, xown_setW, xlen_setW, xi_setR, xi_setW, xr_setI, xr_setW, xww_setI, xww_setR, xi_setI, xr_setR, xww_setW, xE_new, xsz_new, xsl_new, s1, s7, t1, t3, t7, t5, t4, t2n, t6n]; assumption)) ?_
  refine xw_aload_n (pc := 53) dJ7_append_2_53 2 rfl ?_
  refine xw_aret (pc := 54) (.object "java/lang/AbstractStringBuilder") dJ7_append_2_54 rfl ?_
  refine ⟨rfl, v14, hB140.app2 (xc_setI nbv) (by rw [xtag_setI]; exact t5) (by rw [xown_setI]; exact t6) xlen_setI (by omega) (fun j hj => by unfold dgC; rw [if_pos hk]; omega) (fun j hj => ?_) (fun j hj => (xi_setIK (by omega))), (hF14.si (Or.inr t6)).si (Or.inr (by rw [xown_setI]; exact t2))⟩
  rw [show n + j = n + 1 - 1 from by omega, xi_setIS (by rw [t5]; decide)]
  unfold dgC
  rw [if_pos hk]

theorem SP_J7_append_2B {d : Nat} {g : xG} {k : Nat} {o b v n : Nat} {ch : Nat → Nat} (hS : xBL g o b v n ch) (ho : o ≠ 0) (hD : xDig g) (hk1 : 10 ≤ k) (hk : k < 100) (hl : n + 2 ≤ 300) : XM M_J7_append_2 (d + 5) [.ref b, .int (nI k)] g (xVal (.ref b) (fun g' => ∃ w, xBL g' o b w (n + 2) (chA ch n (dgC k)) ∧ xFr (oEq o) 1300 g g')) := by
  have hS0 := hS
  obtain ⟨⟨s1, s2, s3, s7, s5, s6⟩, s4, s8, s9, s10⟩ := hS
  refine xm_of (by decide +kernel) (Nat.le_of_ble_eq_true rfl) ?_
  show XW _ _ 0 [(0, _), (1, _)] [] _ _
  refine xw_aload_n (pc := 0) dJ7_append_2_0 0 rfl ?_
  refine xw_getNat (k := n) (pc := 1) fd_J7_79 dJ7_append_2_1 (by first | assumption | (simp [-List.getD_eq_getElem?_getD, xE_setI, xsz_setI, xsl_setI, xtag_setI, xown_setI, xlen_setI, xE_setR, xsz_setR, xsl_setR, xtag_setR, xown_setR, xlen_setR, xE_setW, xsz_setW, xsl_setW, xtag_setW, xown_setW, xlen_setW, xi_setR, xi_setW, xr_setI, xr_setW, xww_setI, xww_setR, xi_setI, xr_setR, xww_setW, xE_new, xsz_new, xsl_new, s1, s7, xsub]; done) | (simp [-List.getD_eq_getElem?_getD, xE_setI, xsz_setI, xsl_setI, xtag_setI, xown_setI, xlen_setI, xE_setR, xsz_setR, xsl_setR, xtag_setR, xown_setR, xlen_setR, xE_setW, xsz_setW, xsl_setW, xtag_setW, xown_setW, xlen_setW, xi_setR, xi_setW, xr_setI, xr_setW, xww_setI, xww_setR, xi_setI, xr_setR, xww_setW, xE_new, xsz_new, xsl_new, s1, s7] <;> rfl)) (by simp [-List.getD_eq_getElem?_getD, xE_setI, xsz_setI, xsl_setI, xtag_setI, xown_setI, xlen_setI, xE_setR, xsz_setR, xsl_setR, xtag_setR, xown_setR, xlen_setR, xE_setW, xsz_setW, xsl_setW, xtag_setW, xown_setW, xlen_setW, xi_setR, xi_setW, xr_setI, xr_setW, xww_setI, xww_setR, xi_setI, xr_setR, xww_setW, xE_new, xsz_new, xsl_new, s1, s7]) ?_
  refine xw_istore_n (l' := [(2, _), (0, _), (1, _)]) (pc := 4) dJ7_append_2_4 rfl (by decide) rfl ?_
  refine xw_iload_n (pc := 5) dJ7_append_2_5 0 rfl ?_
  refine xw_iload_n (pc := 6) dJ7_append_2_6 2 rfl ?_
  refine xw_callV (pc := 7) (xr_S (as := [_]) ok_J16_stringSize rfl (by decide) q381 q382 dJ7_append_2_7 rfl rfl (Nat.le_of_ble_eq_true rfl)) (SP_J16_stringSizeB hk1 hk) ?_
  refine xn_iadd (pc := 10) dJ7_append_2_10 ?_
  refine xw_istore_n (l' := [(3, _), (2, _), (0, _), (1, _)]) (pc := 11) dJ7_append_2_11 rfl (by decide) rfl ?_
  refine xw_aload_n (pc := 12) dJ7_append_2_12 2 rfl ?_
  refine xw_iload_n (pc := 13) dJ7_append_2_13 0 rfl ?_
  refine xw_callH (pc := 14) (xr_UP (as := [_]) ok_J7_ensureCapacityInternal rfl (by decide) q265 q2767 q268 q267 (by rw [s1]; rfl) (by rw [s1]; exact q221) q266 dJ7_append_2_14 rfl rfl (Nat.le_of_ble_eq_true rfl)) (SP_J7_ensure_0 (d := d) hS0 ho (by omega)) ?_
  intro g14 hc14 hm14
  obtain ⟨v14, hB14, hl14, hF14⟩ := hc14
  have hB140 := hB14
  have hD14 := hD.fr hF14 (by unfold oEq; omega)
  obtain ⟨⟨t1, t2, t3, t7, t5, t6⟩, t4, t8, t9, t10⟩ := hB14
  have t2n : xown g14 b ≠ 0 := by rw [t2]; exact ho
  have t6n : xown g14 v14 ≠ 0 := by rw [t6]; exact ho
  have nbv : b ≠ v14 := hB140.1.ne
  refine xw_aload_n (pc := 17) dJ7_append_2_17 2 rfl ?_
  refine xw_callV (pc := 18) (xr_U (x := ⟨"java/lang/AbstractStringBuilder", "isLatin1", "()Z"⟩) (as := []) ok_J7_isLatin1 rfl (by decide) q300 q302 (Or.inr ⟨_, _, _, q301, q304⟩) ⟨by decide, by decide, by decide +kernel⟩ q301 (by rw [t1]; rfl) (by rw [t1]; exact q303) dJ7_append_2_18 rfl rfl (Nat.le_of_ble_eq_true rfl)) (SP_J7_isLatin1_0 t1 t4) ?_
  refine xw_if_eq (pc := 21) 37 dJ7_append_2_21 rfl (fun hb => absurd hb (by decide)) (fun _ => ?_)
  refine xw_iload_n (pc := 24) dJ7_append_2_24 3 rfl ?_
  refine xw_iload_n (pc := 25) dJ7_append_2_25 0 rfl ?_
  refine xw_aload_n (pc := 26) dJ7_append_2_26 2 rfl ?_
  refine xw_getS (b := v14) (pc := 27) fd_J7_15 dJ7_append_2_27 (by first | assumption | (simp [-List.getD_eq_getElem?_getD, xE_setI, xsz_setI, xsl_setI, xtag_setI, xown_setI, xlen_setI, xE_setR, xsz_setR, xsl_setR, xtag_setR, xown_setR, xlen_setR, xE_setW, xsz_setW, xsl_setW, xtag_setW, xown_setW, xlen_setW, xi_setR, xi_setW, xr_setI, xr_setW, xww_setI, xww_setR, xi_setI, xr_setR, xww_setW, xE_new, xsz_new, xsl_new, s1, s7, t1, t3, t7, t5, t4, t2n, t6n, xsub]; done) | (simp [-List.getD_eq_getElem?_getD, xE_setI, xsz_setI, xsl_setI, xtag_setI, xown_setI, xlen_setI, xE_setR, xsz_setR, xsl_setR, xtag_setR, xown_setR, xlen_setR, xE_setW, xsz_setW, xsl_setW, xtag_setW, xown_setW, xlen_setW, xi_setR, xi_setW, xr_setI, xr_setW, xww_setI, xww_setR, xi_setI, xr_setR, xww_setW, xE_new, xsz_new, xsl_new, s1, s7, t1, t3, t7, t5, t4, t2n, t6n] <;> rfl)) (by simp [-List.getD_eq_getElem?_getD, xE_setI, xsz_setI, xsl_setI, xtag_setI, xown_setI, xlen_setI, xE_setR, xsz_setR, xsl_setR, xtag_setR, xown_setR, xlen_setR, xE_setW, xsz_setW, xsl_setW, xtag_setW, xown_setW, xlen_setW, xi_setR, xi_setW, xr_setI, xr_setW, xww_setI, xww_setR, xi_setI, xr_setR, xww_setW, xE_new, xsz_new, xsl_new, s1, s7, t1, t3, t7, t5, t4, t2n, t6n]) ?_
  refine xw_callV (pc := 30) (xr_S (as := [_, _, _]) ok_J16_getChars rfl (by decide) q384 q385 dJ7_append_2_30 rfl rfl (Nat.le_of_ble_eq_true rfl)) (SP_J16_getCharsB hD14 t5 t6n (by omega) hk1 hk (by omega) (by omega)) ?_
  refine xw_pop (pc := 33) dJ7_append_2_33 rfl ?_
  refine xw_goto (pc := 34) 48 dJ7_append_2_34 rfl ?_
  refine xw_aload_n (pc := 48) dJ7_append_2_48 2 rfl ?_
  refine xw_iload_n (pc := 49) dJ7_append_2_49 0 rfl ?_
  refine xw_putI (pc := 50) fd_J7_79 (xfin_of (by decide) (by decide +kernel)) dJ7_append_2_50 (by first | assumption | (simp [-List.getD_eq_getElem?_getD, xE_setI, xsz_setI, xsl_setI, xtag_setI, xown_setI, xlen_setI, xE_setR, xsz_setR, xsl_setR, xtag_setR, xown_setR, xlen_setR, xE_setW, xsz_setW, xsl_setW, xtag_setW, xown_setW, xlen_setW, xi_setR, xi_setW, xr_setI, xr_setW, xww_setI, xww_setR, xi_setI, xr_setR, xww_setW, xE_new, xsz_new, xsl_new, s1, s7, t1, t3, t7, t5, t4, t2n, t6n, xsub]; done) | (simp [-List.getD_eq_getElem?_getD, xE_setI, xsz_setI, xsl_setI, xtag_setI, xown_setI, xlen_setI, xE_setR, xsz_setR, xsl_setR, xtag_setR, xown_setR, xlen_setR, xE_setW, xsz_setW, xsl_setW, xtag_setW, xown_setW, xlen_setW, xi_setR, xi_setW, xr_setI, xr_setW, xww_setI, xww_setR, xi_setI, xr_setR, xww_setW, xE_new, xsz_new, xsl_new, s1, s7, t1, t3, t7, t5, t4, t2n, t6n] <;> rfl)) (by first | assumption | (simp [-List.getD_eq_getElem?_getD, xE_setI, xsz_setI, xsl_setI, xtag_setI, xown_setI, xlen_setI, xE_setR, xsz_setR, xsl_setR, xtag_setR, xown_setR, xlen_setR, xE_setW, xsz_setW, xsl_setW, xtag_setW, xown_setW, xlen_setW, xi_setR, xi_setW, xr_setI, xr_setW, xww_setI, xww_setR, xi_setI, xr_setR, xww_setW, xE_new, xsz_new, xsl_new, s1, s7, t1, t3, t7, t5, t4, t2n, t6n]; done) | (simp [-List.getD_eq_getElem?_getD, xE_setI, xsz_setI, xsl_setI, xtag_setI, xown_setI, xlen_setI, xE_setR, xsz_setR, xsl_setR, xtag_setR, xown_setR, xlen_setR, xE_setW, xsz_setW, xsl_setW, xtag_setW, xown_setW, xlen_setW, xi_setR, xi_setW, xr_setI, xr_setW, xww_setI, xww_setR, xi_setI, xr_setR, xww_setW, xE_new, xsz_new, xsl_new, s1, s7, t1, t3, t7, t5, t4, t2n, t6n]; assumption)) ?_
  refine xw_aload_n (pc := 53) dJ7_append_2_53 2 rfl ?_
  refine xw_aret (pc := 54) (.object "java/lang/AbstractStringBuilder") dJ7_append_2_54 rfl ?_
  refine ⟨rfl, v14, hB140.app2 ((xc_setI nbv).trans (xc_setI nbv)) (by rw [xtag_setI, xtag_setI]; exact t5) (by rw [xown_setI, xown_setI]; exact t6) (xlen_setI.trans xlen_setI) (by omega) (fun j hj => by unfold dgC; rw [if_neg (by omega)]; split <;> omega) (fun j hj => ?_) (fun j hj => ((xi_setIK (by omega)).trans (xi_setIK (by omega)))), ((hF14.si (Or.inr t6)).si (Or.inr (by rw [xown_setI]; exact t6))).si (Or.inr (by rw [xown_setI, xown_setI]; exact t2))⟩
  unfold dgC
  rw [if_neg (by omega)]
  by_cases hj0 : j = 0
  · rw [if_pos hj0, show n + j = n + 2 - 1 - 1 from by omega]
    exact xi_setIS (by rw [xtag_setI, t5]; decide)
  · rw [if_neg hj0, show n + j = n + 2 - 1 from by omega]
    exact (xi_setIK (by omega)).trans (xi_setIS (by rw [t5]; decide))

theorem SP_J7_append_2 {d : Nat} {g : xG} {k : Nat} {o b v n : Nat} {ch : Nat → Nat} (hS : xBL g o b v n ch) (ho : o ≠ 0) (hD : xDig g) (hk : k < 100) (hl : n + 2 ≤ 300) : XM M_J7_append_2 (d + 5) [.ref b, .int (nI k)] g (xVal (.ref b) (fun g' => ∃ w, xBL g' o b w (n + dgN k) (chA ch n (dgC k)) ∧ xFr (oEq o) 1300 g g')) := by
  unfold dgN
  by_cases h : k < 10
  · rw [if_pos h]
    exact SP_J7_append_2A hS ho hD h hl
  · rw [if_neg h]
    exact SP_J7_append_2B hS ho hD (by omega) hk hl
theorem SP_J8_append_2 {d : Nat} {g : xG} {k : Nat} {o b v n : Nat} {ch : Nat → Nat} (hS : xBL g o b v n ch) (ho : o ≠ 0) (hD : xDig g) (hk : k < 100) (hl : n + 2 ≤ 300) : XM M_J8_append_2 (d + 6) [.ref b, .int (nI k)] g (xVal (.ref b) (fun g' => ∃ w, xBL g' o b w (n + dgN k) (chA ch n (dgC k)) ∧ xFr (oEq o) 1300 g g')) := by
  refine xm_of (by decide +kernel) (Nat.le_of_ble_eq_true rfl) ?_
  show XW _ _ 0 [(0, _), (1, _)] [] _ _
  refine xw_aload_n (pc := 0) dJ8_append_2_0 0 rfl ?_
  refine xw_iload_n (pc := 1) dJ8_append_2_1 1 rfl ?_
  refine xw_callF (pc := 2) (xr_SU (as := [_]) ok_J7_append_2 rfl (by decide) q378 q2772 q251 q379 (by decide) (by exact hS.1.1) dJ8_append_2_2 rfl rfl (Nat.le_of_ble_eq_true rfl)) (SP_J7_append_2 hS ho hD hk hl) ?_
  intro g2 hc2 hm2
  refine xw_pop (pc := 5) dJ8_append_2_5 rfl ?_
  refine xw_aload_n (pc := 6) dJ8_append_2_6 0 rfl ?_
  refine xw_aret (pc := 7) (.object "java/lang/StringBuilder") dJ8_append_2_7 rfl ?_
  exact ⟨rfl, hc2⟩

