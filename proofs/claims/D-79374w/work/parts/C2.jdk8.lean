/-! JDK 8: StringBuilder: append a char, read, set back -/
set_option maxRecDepth 100000
def chS (ch : Nat → Nat) (n c : Nat) : Nat → Nat := fun j => if j = n then c else ch j
theorem chS_n {ch : Nat → Nat} {n c : Nat} : chS ch n c n = c := if_pos rfl
theorem chS_j {ch : Nat → Nat} {n c j : Nat} (h : j ≠ n) : chS ch n c j = ch j := if_neg h
section B8
variable {g g' : xG} {o b v n : Nat} {ch : Nat → Nat} {O : Nat → Prop} {N : Nat}
theorem xB0.ne (h : xB0 g o b v n) : b ≠ v := by
  intro e
  have h1 := h.1
  rw [e, h.2.2.2.2.1] at h1
  exact absurd h1 (by decide)
theorem xB0.cnt (h : xB0 g o b v n) (m : Nat) : xB0 (xsetI g b 3 (nI m)) o b v m := by
  obtain ⟨a1, a2, a3, a4, a5, a6⟩ := h
  exact ⟨by rw [xtag_setI]; exact a1, by rw [xown_setI]; exact a2, by rw [xr_setI]; exact a3, xi_setIS (by rw [a1]; decide), by rw [xtag_setI]; exact a5, by rw [xown_setI]; exact a6⟩
theorem xB0.low (h : xB0 g o b v n) {j : Nat} {x : Int32} (hj : j < 3) : xB0 (xsetI g b j x) o b v n := by
  obtain ⟨a1, a2, a3, a4, a5, a6⟩ := h
  exact ⟨by rw [xtag_setI]; exact a1, by rw [xown_setI]; exact a2, by rw [xr_setI]; exact a3, (xi_setIK (by omega)).trans a4, by rw [xtag_setI]; exact a5, by rw [xown_setI]; exact a6⟩
theorem xB0.byte (h : xB0 g o b v n) {j : Nat} {x : Int32} : xB0 (xsetI g v j x) o b v n := by
  have hn := h.ne
  obtain ⟨a1, a2, a3, a4, a5, a6⟩ := h
  exact ⟨by rw [xtag_setI]; exact a1, by rw [xown_setI]; exact a2, by rw [xr_setI]; exact a3, (xi_of (xc_setI hn) _).trans a4, by rw [xtag_setI]; exact a5, by rw [xown_setI]; exact a6⟩
theorem xB0.fr (h : xB0 g o b v n) (F : xFr O N g g') (hO : ¬ O o) : xB0 g' o b v n := by
  obtain ⟨a1, a2, a3, a4, a5, a6⟩ := h
  have hb : b < xsz g := xlt (by rw [a1]; decide)
  have hv : v < xsz g := xlt (by rw [a5]; decide)
  have nb : ¬ O (xown g b) := by rw [a2]; exact hO
  exact ⟨(F.tag hb).trans a1, (F.own hb).trans a2, (F.r' hb nb).trans a3, (F.i' hb nb).trans a4, (F.tag hv).trans a5, (F.own hv).trans a6⟩
theorem xBL.fr (h : xBL g o b v n ch) (F : xFr O N g g') (hO : ¬ O o) : xBL g' o b v n ch := by
  obtain ⟨h0, h1, h2, h3, h4⟩ := h
  have hb : b < xsz g := xlt (by rw [h0.1]; decide)
  have hv : v < xsz g := xlt (by rw [h0.2.2.2.2.1]; decide)
  have nb : ¬ O (xown g b) := by rw [h0.2.1]; exact hO
  have nv : ¬ O (xown g v) := by rw [h0.2.2.2.2.2]; exact hO
  exact ⟨h0.fr F hO, (F.i' hb nb).trans h1, by rw [F.len hv]; exact h2, by rw [F.len hv]; exact h3, fun j hj => ⟨(h4 j hj).1, (F.i' hv nv).trans (h4 j hj).2⟩⟩
theorem xBU.fr (h : xBU g o b v n ch) (F : xFr O N g g') (hO : ¬ O o) : xBU g' o b v n ch := by
  obtain ⟨h0, h1, h2, h3, h4⟩ := h
  have hb : b < xsz g := xlt (by rw [h0.1]; decide)
  have hv : v < xsz g := xlt (by rw [h0.2.2.2.2.1]; decide)
  have nb : ¬ O (xown g b) := by rw [h0.2.1]; exact hO
  have nv : ¬ O (xown g v) := by rw [h0.2.2.2.2.2]; exact hO
  exact ⟨h0.fr F hO, (F.i' hb nb).trans h1, by rw [F.len hv]; exact h2, by rw [F.len hv]; exact h3, fun j hj => ⟨(h4 j hj).1, (F.i' hv nv).trans (h4 j hj).2.1, (F.i' hv nv).trans (h4 j hj).2.2⟩⟩
theorem xBL.may (h : xBL g o b v n ch) {x : Int32} : xBL (xsetI g b 2 x) o b v n ch := by
  have hn := h.1.ne
  obtain ⟨h0, h1, h2, h3, h4⟩ := h
  exact ⟨h0.low (by decide), (xi_setIK (by decide)).trans h1, by rw [xlen_setI]; exact h2, by rw [xlen_setI]; exact h3, fun j hj => ⟨(h4 j hj).1, (xi_of (xc_setI (Ne.symm hn)) _).trans (h4 j hj).2⟩⟩
theorem xBU.may (h : xBU g o b v n ch) {x : Int32} : xBU (xsetI g b 2 x) o b v n ch := by
  have hn := h.1.ne
  obtain ⟨h0, h1, h2, h3, h4⟩ := h
  exact ⟨h0.low (by decide), (xi_setIK (by decide)).trans h1, by rw [xlen_setI]; exact h2, by rw [xlen_setI]; exact h3, fun j hj => ⟨(h4 j hj).1, (xi_of (xc_setI (Ne.symm hn)) _).trans (h4 j hj).2.1, (xi_of (xc_setI (Ne.symm hn)) _).trans (h4 j hj).2.2⟩⟩
/-- the count set back -/
theorem xBL.cut (h : xBL g o b v n ch) {m : Nat} (hm : m ≤ n) : xBL (xsetI g b 3 (nI m)) o b v m ch := by
  have hn := h.1.ne
  obtain ⟨h0, h1, h2, h3, h4⟩ := h
  exact ⟨h0.cnt m, (xi_setIK (by decide)).trans h1, by rw [xlen_setI]; omega, by rw [xlen_setI]; exact h3, fun j hj => ⟨(h4 j (by omega)).1, (xi_of (xc_setI (Ne.symm hn)) _).trans (h4 j (by omega)).2⟩⟩
theorem xBU.cut (h : xBU g o b v n ch) {m : Nat} (hm : m ≤ n) : xBU (xsetI g b 3 (nI m)) o b v m ch := by
  have hn := h.1.ne
  obtain ⟨h0, h1, h2, h3, h4⟩ := h
  exact ⟨h0.cnt m, (xi_setIK (by decide)).trans h1, by rw [xlen_setI]; omega, by rw [xlen_setI]; exact h3, fun j hj => ⟨(h4 j (by omega)).1, (xi_of (xc_setI (Ne.symm hn)) _).trans (h4 j (by omega)).2.1, (xi_of (xc_setI (Ne.symm hn)) _).trans (h4 j (by omega)).2.2⟩⟩
theorem xBL.push (h : xBL g o b v n ch) {c : Nat} (hc : c < 256) (hl : n + 1 ≤ xlen g v) : xBL (xsetI (xsetI g b 3 (nI (n + 1))) v n (bt c)) o b v (n + 1) (chS ch n c) := by
  have hn := h.1.ne
  obtain ⟨h0, h1, h2, h3, h4⟩ := h
  refine ⟨(h0.cnt (n + 1)).byte, (xi_of (xc_setI hn) _).trans ((xi_setIK (by decide)).trans h1), by rw [xlen_setI, xlen_setI]; exact hl, by rw [xlen_setI, xlen_setI]; exact h3, fun j hj => ?_⟩
  by_cases e : j = n
  · subst e
    rw [chS_n]
    exact ⟨hc, xi_setIS (by rw [xtag_setI, h0.2.2.2.2.1]; decide)⟩
  · rw [chS_j e]
    exact ⟨(h4 j (by omega)).1, (xi_setIK e).trans ((xi_of (xc_setI (Ne.symm hn)) _).trans (h4 j (by omega)).2)⟩
theorem xBU.push (h : xBU g o b v n ch) {c : Nat} (hc : c < 65536) (hl : 2 * (n + 1) ≤ xlen g v) : xBU (xsetI (xsetI (xsetI g b 3 (nI (n + 1))) v (2 * n) (bt c)) v (2 * n + 1) (bt (c / 256))) o b v (n + 1) (chS ch n c) := by
  have hn := h.1.ne
  obtain ⟨h0, h1, h2, h3, h4⟩ := h
  refine ⟨(h0.cnt (n + 1)).byte.byte, (xi_of (xc_setI hn) _).trans ((xi_of (xc_setI hn) _).trans ((xi_setIK (by decide)).trans h1)), by rw [xlen_setI, xlen_setI, xlen_setI]; exact hl, by rw [xlen_setI, xlen_setI, xlen_setI]; exact h3, fun j hj => ?_⟩
  by_cases e : j = n
  · subst e
    rw [chS_n]
    exact ⟨hc, (xi_setIK (by omega)).trans (xi_setIS (by rw [xtag_setI, h0.2.2.2.2.1]; decide)), xi_setIS (by rw [xtag_setI, xtag_setI, h0.2.2.2.2.1]; decide)⟩
  · rw [chS_j e]
    exact ⟨(h4 j (by omega)).1, (xi_setIK (by omega)).trans ((xi_setIK (by omega)).trans ((xi_of (xc_setI (Ne.symm hn)) _).trans (h4 j (by omega)).2.1)), (xi_setIK (by omega)).trans ((xi_setIK (by omega)).trans ((xi_of (xc_setI (Ne.symm hn)) _).trans (h4 j (by omega)).2.2))⟩
/-- another array of bytes -/
theorem xBL.arr (h : xBL g o b v n ch) {N : Nat} {w : Nat} (F : xFr oNo N g g') (w1 : xtag g' w = 103) (w2 : xown g' w = o) (w3 : xlen g v ≤ xlen g' w) (w4 : xlen g' w ≤ 1000) (w5 : ∀ j, j < xlen g v → xi g' w j = xi g v j) : xBL (xsetR g' b 0 (some w)) o b w n ch := by
  obtain ⟨⟨a1, a2, a3, a4, a5, a6⟩, h1, h2, h3, h4⟩ := h
  have hb : b < xsz g := xlt (by rw [a1]; decide)
  have nb : ¬ oNo (xown g b) := by unfold oNo; exact id
  have tb : xtag g' b = 19 := (F.tag hb).trans a1
  exact ⟨⟨by rw [xtag_setR]; exact tb, by rw [xown_setR, F.own hb]; exact a2, xr_setRS (by rw [tb]; decide), by rw [xi_setR]; exact (F.i' hb nb).trans a4, by rw [xtag_setR]; exact w1, by rw [xown_setR]; exact w2⟩, by rw [xi_setR]; exact (F.i' hb nb).trans h1, by rw [xlen_setR]; omega, by rw [xlen_setR]; exact w4, fun j hj => ⟨(h4 j hj).1, by rw [xi_setR, w5 j (by omega)]; exact (h4 j hj).2⟩⟩
theorem xBU.arr (h : xBU g o b v n ch) {N : Nat} {w : Nat} (F : xFr oNo N g g') (w1 : xtag g' w = 103) (w2 : xown g' w = o) (w3 : xlen g v ≤ xlen g' w) (w4 : xlen g' w ≤ 2000) (w5 : ∀ j, j < xlen g v → xi g' w j = xi g v j) : xBU (xsetR g' b 0 (some w)) o b w n ch := by
  obtain ⟨⟨a1, a2, a3, a4, a5, a6⟩, h1, h2, h3, h4⟩ := h
  have hb : b < xsz g := xlt (by rw [a1]; decide)
  have nb : ¬ oNo (xown g b) := by unfold oNo; exact id
  have tb : xtag g' b = 19 := (F.tag hb).trans a1
  exact ⟨⟨by rw [xtag_setR]; exact tb, by rw [xown_setR, F.own hb]; exact a2, xr_setRS (by rw [tb]; decide), by rw [xi_setR]; exact (F.i' hb nb).trans a4, by rw [xtag_setR]; exact w1, by rw [xown_setR]; exact w2⟩, by rw [xi_setR]; exact (F.i' hb nb).trans h1, by rw [xlen_setR]; omega, by rw [xlen_setR]; exact w4, fun j hj => ⟨(h4 j hj).1, by rw [xi_setR, w5 _ (by omega)]; exact (h4 j hj).2.1, by rw [xi_setR, w5 _ (by omega)]; exact (h4 j hj).2.2⟩⟩
/-- .. pairs of bytes in the stead of bytes -/
theorem xBL.inf (h : xBL g o b v n ch) {N : Nat} {w : Nat} (F : xFr oNo N g g') (w1 : xtag g' w = 103) (w2 : xown g' w = o) (w3 : xlen g' w = xlen g v * 2) (w5 : ∀ j, j < n → xi g' w (2 * j) = bt (ch j) ∧ xi g' w (2 * j + 1) = bt (ch j / 256)) : xBU (xsetI (xsetR g' b 0 (some w)) b 1 (nI 1)) o b w n ch := by
  obtain ⟨⟨a1, a2, a3, a4, a5, a6⟩, h1, h2, h3, h4⟩ := h
  have hb : b < xsz g := xlt (by rw [a1]; decide)
  have nb : ¬ oNo (xown g b) := by unfold oNo; exact id
  have tb : xtag g' b = 19 := (F.tag hb).trans a1
  have nw : w ≠ b := by intro e; rw [e, tb] at w1; exact absurd w1 (by decide)
  refine ⟨⟨by rw [xtag_setI, xtag_setR]; exact tb, by rw [xown_setI, xown_setR, F.own hb]; exact a2, by rw [xr_setI]; exact xr_setRS (by rw [tb]; decide), (xi_setIK (by decide)).trans (by rw [xi_setR]; exact (F.i' hb nb).trans a4), by rw [xtag_setI, xtag_setR]; exact w1, by rw [xown_setI, xown_setR]; exact w2⟩, xi_setIS (by rw [xtag_setR, tb]; decide), by rw [xlen_setI, xlen_setR]; omega, by rw [xlen_setI, xlen_setR]; omega, fun j hj => ⟨by have := (h4 j hj).1; omega, ?_, ?_⟩⟩
  · exact (xi_of (xc_setI nw) _).trans (by rw [xi_setR]; exact (w5 j hj).1)
  · exact (xi_of (xc_setI nw) _).trans (by rw [xi_setR]; exact (w5 j hj).2)
end B8
theorem SP_J15_canEncodeT {d : Nat} {g : xG} {c : Nat} (hc : c < 256) : XM M_J15_canEncode d [.int (nI c)] g (xOne (some (.int (bI true))) g) := by
  have h := SP_J15_canEncode (d := d) (g := g) (c := c) (by omega)
  rw [decide_eq_true hc] at h
  exact h
theorem SP_J15_canEncodeF {d : Nat} {g : xG} {c : Nat} (hc : c < 65536) (h2 : ¬ c < 256) : XM M_J15_canEncode d [.int (nI c)] g (xOne (some (.int (bI false))) g) := by
  have h := SP_J15_canEncode (d := d) (g := g) (c := c) hc
  rw [decide_eq_false h2] at h
  exact h

theorem SP_J7_newCapacity_0 {d : Nat} {g : xG} {k : Nat} {b v : Nat} (s1 : xtag g b = 19) (s3 : xr g b 0 = some v) (s5 : xtag g v = 103) (s4 : xi g b 1 = nI 0) (hl : xlen g v ≤ 1000) (hk : (xlen g v) < k) (hk2 : k ≤ 300) : XM M_J7_newCapacity (d + 2) [.ref b, .int (nI k)] g (xOne (some (.int (nI ((xlen g v) + max (k - (xlen g v)) ((xlen g v) + 2))))) g) := by
  refine xm_of (by decide +kernel) (Nat.le_of_ble_eq_true rfl) ?_
  show XW _ _ 0 [(0, _), (1, _)] [] _ _
  refine xw_aload_n (pc := 0) dJ7_newCapacity_0 0 rfl ?_
  refine xw_getS (b := v) (pc := 1) fd_J7_15 dJ7_newCapacity_1 (by first | assumption | (simp [-List.getD_eq_getElem?_getD, xE_setI, xsz_setI, xsl_setI, xtag_setI, xown_setI, xlen_setI, xE_setR, xsz_setR, xsl_setR, xtag_setR, xown_setR, xlen_setR, xE_setW, xsz_setW, xsl_setW, xtag_setW, xown_setW, xlen_setW, xi_setR, xi_setW, xr_setI, xr_setW, xww_setI, xww_setR, xi_setI, xr_setR, xww_setW, xE_new, xsz_new, xsl_new, s1, s3, s4, s5, xsub]; done) | (simp [-List.getD_eq_getElem?_getD, xE_setI, xsz_setI, xsl_setI, xtag_setI, xown_setI, xlen_setI, xE_setR, xsz_setR, xsl_setR, xtag_setR, xown_setR, xlen_setR, xE_setW, xsz_setW, xsl_setW, xtag_setW, xown_setW, xlen_setW, xi_setR, xi_setW, xr_setI, xr_setW, xww_setI, xww_setR, xi_setI, xr_setR, xww_setW, xE_new, xsz_new, xsl_new, s1, s3, s4, s5] <;> rfl)) (by simp [-List.getD_eq_getElem?_getD, xE_setI, xsz_setI, xsl_setI, xtag_setI, xown_setI, xlen_setI, xE_setR, xsz_setR, xsl_setR, xtag_setR, xown_setR, xlen_setR, xE_setW, xsz_setW, xsl_setW, xtag_setW, xown_setW, xlen_setW, xi_setR, xi_setW, xr_setI, xr_setW, xww_setI, xww_setR, xi_setI, xr_setR, xww_setW, xE_new, xsz_new, xsl_new, s1, s3, s4, s5]) ?_
  refine xw_alen (q := 2) (pc := 4) dJ7_newCapacity_4 (by simp [-List.getD_eq_getElem?_getD, xE_setI, xsz_setI, xsl_setI, xtag_setI, xown_setI, xlen_setI, xE_setR, xsz_setR, xsl_setR, xtag_setR, xown_setR, xlen_setR, xE_setW, xsz_setW, xsl_setW, xtag_setW, xown_setW, xlen_setW, xi_setR, xi_setW, xr_setI, xr_setW, xww_setI, xww_setR, xi_setI, xr_setR, xww_setW, xE_new, xsz_new, xsl_new, s1, s3, s4, s5]) (by first | decide | omega) ?_
  rw [show xlen _ v = (xlen g v) from by simp [-List.getD_eq_getElem?_getD, xE_setI, xsz_setI, xsl_setI, xtag_setI, xown_setI, xlen_setI, xE_setR, xsz_setR, xsl_setR, xtag_setR, xown_setR, xlen_setR, xE_setW, xsz_setW, xsl_setW, xtag_setW, xown_setW, xlen_setW, xi_setR, xi_setW, xr_setI, xr_setW, xww_setI, xww_setR, xi_setI, xr_setR, xww_setW, xE_new, xsz_new, xsl_new, s1, s3, s4, s5]]
  refine xw_istore_n (l' := [(2, _), (0, _), (1, _)]) (pc := 5) dJ7_newCapacity_5 rfl (by decide) rfl ?_
  refine xw_iload_n (pc := 6) dJ7_newCapacity_6 2 rfl ?_
  refine xw_aload_n (pc := 7) dJ7_newCapacity_7 1 rfl ?_
  refine xw_getNat (k := 0) (pc := 8) fd_J7_22 dJ7_newCapacity_8 (by first | assumption | (simp [-List.getD_eq_getElem?_getD, xE_setI, xsz_setI, xsl_setI, xtag_setI, xown_setI, xlen_setI, xE_setR, xsz_setR, xsl_setR, xtag_setR, xown_setR, xlen_setR, xE_setW, xsz_setW, xsl_setW, xtag_setW, xown_setW, xlen_setW, xi_setR, xi_setW, xr_setI, xr_setW, xww_setI, xww_setR, xi_setI, xr_setR, xww_setW, xE_new, xsz_new, xsl_new, s1, s3, s4, s5, xsub]; done) | (simp [-List.getD_eq_getElem?_getD, xE_setI, xsz_setI, xsl_setI, xtag_setI, xown_setI, xlen_setI, xE_setR, xsz_setR, xsl_setR, xtag_setR, xown_setR, xlen_setR, xE_setW, xsz_setW, xsl_setW, xtag_setW, xown_setW, xlen_setW, xi_setR, xi_setW, xr_setI, xr_setW, xww_setI, xww_setR, xi_setI, xr_setR, xww_setW, xE_new, xsz_new, xsl_new, s1, s3, s4, s5] <;> rfl)) (by simp [-List.getD_eq_getElem?_getD, xE_setI, xsz_setI, xsl_setI, xtag_setI, xown_setI, xlen_setI, xE_setR, xsz_setR, xsl_setR, xtag_setR, xown_setR, xlen_setR, xE_setW, xsz_setW, xsl_setW, xtag_setW, xown_setW, xlen_setW, xi_setR, xi_setW, xr_setI, xr_setW, xww_setI, xww_setR, xi_setI, xr_setR, xww_setW, xE_new, xsz_new, xsl_new, s1, s3, s4, s5]) ?_
  refine xn_ishl (c := k) (pc := 11) dJ7_newCapacity_11 (by decide) (by first | omega | (simp; done) | (simp; omega)) ?_
  refine xw_istore_n (l' := [(3, _), (2, _), (0, _), (1, _)]) (pc := 12) dJ7_newCapacity_12 rfl (by decide) rfl ?_
  refine xw_iload_n (pc := 13) dJ7_newCapacity_13 0 rfl ?_
  refine xw_iload_n (pc := 14) dJ7_newCapacity_14 1 rfl ?_
  refine xn_isub (pc := 15) dJ7_newCapacity_15 (by omega) ?_
  refine xw_istore (l' := [(4, _), (3, _), (2, _), (0, _), (1, _)]) (pc := 16) dJ7_newCapacity_16 (by decide) rfl ?_
  refine xw_iload_n (pc := 18) dJ7_newCapacity_18 2 rfl ?_
  refine xw_iload (pc := 19) dJ7_newCapacity_19 0 rfl ?_
  refine xw_iload_n (pc := 21) dJ7_newCapacity_21 2 rfl ?_
  refine xw_iconst (v := nI 2) (pc := 22) dJ7_newCapacity_22 rfl ?_
  refine xw_aload_n (pc := 23) dJ7_newCapacity_23 3 rfl ?_
  refine xw_getNat (k := 0) (pc := 24) fd_J7_22 dJ7_newCapacity_24 (by first | assumption | (simp [-List.getD_eq_getElem?_getD, xE_setI, xsz_setI, xsl_setI, xtag_setI, xown_setI, xlen_setI, xE_setR, xsz_setR, xsl_setR, xtag_setR, xown_setR, xlen_setR, xE_setW, xsz_setW, xsl_setW, xtag_setW, xown_setW, xlen_setW, xi_setR, xi_setW, xr_setI, xr_setW, xww_setI, xww_setR, xi_setI, xr_setR, xww_setW, xE_new, xsz_new, xsl_new, s1, s3, s4, s5, xsub]; done) | (simp [-List.getD_eq_getElem?_getD, xE_setI, xsz_setI, xsl_setI, xtag_setI, xown_setI, xlen_setI, xE_setR, xsz_setR, xsl_setR, xtag_setR, xown_setR, xlen_setR, xE_setW, xsz_setW, xsl_setW, xtag_setW, xown_setW, xlen_setW, xi_setR, xi_setW, xr_setI, xr_setW, xww_setI, xww_setR, xi_setI, xr_setR, xww_setW, xE_new, xsz_new, xsl_new, s1, s3, s4, s5] <;> rfl)) (by simp [-List.getD_eq_getElem?_getD, xE_setI, xsz_setI, xsl_setI, xtag_setI, xown_setI, xlen_setI, xE_setR, xsz_setR, xsl_setR, xtag_setR, xown_setR, xlen_setR, xE_setW, xsz_setW, xsl_setW, xtag_setW, xown_setW, xlen_setW, xi_setR, xi_setW, xr_setI, xr_setW, xww_setI, xww_setR, xi_setI, xr_setR, xww_setW, xE_new, xsz_new, xsl_new, s1, s3, s4, s5]) ?_
  refine xn_ishl (c := 2) (pc := 27) dJ7_newCapacity_27 (by decide) (by first | omega | (simp; done) | (simp; omega)) ?_
  refine xn_iadd (pc := 28) dJ7_newCapacity_28 ?_
  refine xw_callV (pc := 29) (xr_S (as := [_, _, _]) ok_J11_newLength rfl (by decide) q273 q274 dJ7_newCapacity_29 rfl rfl (Nat.le_of_ble_eq_true rfl)) (SP_J11_newLength (by omega) (by omega) (by omega) (by omega)) ?_
  refine xw_istore (l' := [(5, _), (4, _), (3, _), (2, _), (0, _), (1, _)]) (pc := 32) dJ7_newCapacity_32 (by decide) rfl ?_
  refine xw_iload (pc := 34) dJ7_newCapacity_34 0 rfl ?_
  refine xw_ldc (v := nI 2147483647) (pc := 36) dJ7_newCapacity_36 q283 ?_
  refine xw_icmp_ne (pc := 38) 51 dJ7_newCapacity_38 rfl (fun hb38 => ?_) (fun hb38 => ?_)
  rotate_left
  · exfalso
    replace hb38 : ((xlen g v) + max (k - (xlen g v)) ((xlen g v) + 2)) = 2147483647 := (nI_eq (a := ((xlen g v) + max (k - (xlen g v)) ((xlen g v) + 2))) (b := 2147483647) (by omega) (by omega)).mp hb38
    omega
  replace hb38 : ¬ (((xlen g v) + max (k - (xlen g v)) ((xlen g v) + 2)) = 2147483647) := mt (nI_eq (a := ((xlen g v) + max (k - (xlen g v)) ((xlen g v) + 2))) (b := 2147483647) (by omega) (by omega)).mpr hb38
  refine xw_iload (pc := 51) dJ7_newCapacity_51 0 rfl ?_
  refine xw_aload_n (pc := 53) dJ7_newCapacity_53 4 rfl ?_
  refine xw_getNat (k := 0) (pc := 54) fd_J7_22 dJ7_newCapacity_54 (by first | assumption | (simp [-List.getD_eq_getElem?_getD, xE_setI, xsz_setI, xsl_setI, xtag_setI, xown_setI, xlen_setI, xE_setR, xsz_setR, xsl_setR, xtag_setR, xown_setR, xlen_setR, xE_setW, xsz_setW, xsl_setW, xtag_setW, xown_setW, xlen_setW, xi_setR, xi_setW, xr_setI, xr_setW, xww_setI, xww_setR, xi_setI, xr_setR, xww_setW, xE_new, xsz_new, xsl_new, s1, s3, s4, s5, xsub]; done) | (simp [-List.getD_eq_getElem?_getD, xE_setI, xsz_setI, xsl_setI, xtag_setI, xown_setI, xlen_setI, xE_setR, xsz_setR, xsl_setR, xtag_setR, xown_setR, xlen_setR, xE_setW, xsz_setW, xsl_setW, xtag_setW, xown_setW, xlen_setW, xi_setR, xi_setW, xr_setI, xr_setW, xww_setI, xww_setR, xi_setI, xr_setR, xww_setW, xE_new, xsz_new, xsl_new, s1, s3, s4, s5] <;> rfl)) (by simp [-List.getD_eq_getElem?_getD, xE_setI, xsz_setI, xsl_setI, xtag_setI, xown_setI, xlen_setI, xE_setR, xsz_setR, xsl_setR, xtag_setR, xown_setR, xlen_setR, xE_setW, xsz_setW, xsl_setW, xtag_setW, xown_setW, xlen_setW, xi_setR, xi_setW, xr_setI, xr_setW, xww_setI, xww_setR, xi_setI, xr_setR, xww_setW, xE_new, xsz_new, xsl_new, s1, s3, s4, s5]) ?_
  refine xn_ishr (c := ((xlen g v) + max (k - (xlen g v)) ((xlen g v) + 2))) (pc := 57) dJ7_newCapacity_57 (by decide) (by first | omega | (simp; done) | (simp; omega)) (by omega) ?_
  refine xw_iret (pc := 58) .int dJ7_newCapacity_58 rfl ?_ 
  exact ⟨rfl, rfl⟩

theorem SP_J7_ensureN_0 {d : Nat} {g : xG} {k : Nat} {b v : Nat} (s1 : xtag g b = 19) (s3 : xr g b 0 = some v) (s5 : xtag g v = 103) (s4 : xi g b 1 = nI 0) (hl : xlen g v ≤ 1000) (hk : k ≤ (xlen g v)) : XM M_J7_ensureCapacityInternal (d + 4) [.ref b, .int (nI k)] g (xOne none g) := by
  refine xm_of (by decide +kernel) (Nat.le_of_ble_eq_true rfl) ?_
  show XW _ _ 0 [(0, _), (1, _)] [] _ _
  refine xw_aload_n (pc := 0) dJ7_ensureCapacityInternal_0 0 rfl ?_
  refine xw_getS (b := v) (pc := 1) fd_J7_15 dJ7_ensureCapacityInternal_1 (by first | assumption | (simp [-List.getD_eq_getElem?_getD, xE_setI, xsz_setI, xsl_setI, xtag_setI, xown_setI, xlen_setI, xE_setR, xsz_setR, xsl_setR, xtag_setR, xown_setR, xlen_setR, xE_setW, xsz_setW, xsl_setW, xtag_setW, xown_setW, xlen_setW, xi_setR, xi_setW, xr_setI, xr_setW, xww_setI, xww_setR, xi_setI, xr_setR, xww_setW, xE_new, xsz_new, xsl_new, s1, s3, s4, s5, xsub]; done) | (simp [-List.getD_eq_getElem?_getD, xE_setI, xsz_setI, xsl_setI, xtag_setI, xown_setI, xlen_setI, xE_setR, xsz_setR, xsl_setR, xtag_setR, xown_setR, xlen_setR, xE_setW, xsz_setW, xsl_setW, xtag_setW, xown_setW, xlen_setW, xi_setR, xi_setW, xr_setI, xr_setW, xww_setI, xww_setR, xi_setI, xr_setR, xww_setW, xE_new, xsz_new, xsl_new, s1, s3, s4, s5] <;> rfl)) (by simp [-List.getD_eq_getElem?_getD, xE_setI, xsz_setI, xsl_setI, xtag_setI, xown_setI, xlen_setI, xE_setR, xsz_setR, xsl_setR, xtag_setR, xown_setR, xlen_setR, xE_setW, xsz_setW, xsl_setW, xtag_setW, xown_setW, xlen_setW, xi_setR, xi_setW, xr_setI, xr_setW, xww_setI, xww_setR, xi_setI, xr_setR, xww_setW, xE_new, xsz_new, xsl_new, s1, s3, s4, s5]) ?_
  refine xw_alen (q := 2) (pc := 4) dJ7_ensureCapacityInternal_4 (by simp [-List.getD_eq_getElem?_getD, xE_setI, xsz_setI, xsl_setI, xtag_setI, xown_setI, xlen_setI, xE_setR, xsz_setR, xsl_setR, xtag_setR, xown_setR, xlen_setR, xE_setW, xsz_setW, xsl_setW, xtag_setW, xown_setW, xlen_setW, xi_setR, xi_setW, xr_setI, xr_setW, xww_setI, xww_setR, xi_setI, xr_setR, xww_setW, xE_new, xsz_new, xsl_new, s1, s3, s4, s5]) (by first | decide | omega) ?_
  rw [show xlen _ v = (xlen g v) from by simp [-List.getD_eq_getElem?_getD, xE_setI, xsz_setI, xsl_setI, xtag_setI, xown_setI, xlen_setI, xE_setR, xsz_setR, xsl_setR, xtag_setR, xown_setR, xlen_setR, xE_setW, xsz_setW, xsl_setW, xtag_setW, xown_setW, xlen_setW, xi_setR, xi_setW, xr_setI, xr_setW, xww_setI, xww_setR, xi_setI, xr_setR, xww_setW, xE_new, xsz_new, xsl_new, s1, s3, s4, s5]]
  refine xw_aload_n (pc := 5) dJ7_ensureCapacityInternal_5 0 rfl ?_
  refine xw_getNat (k := 0) (pc := 6) fd_J7_22 dJ7_ensureCapacityInternal_6 (by first | assumption | (simp [-List.getD_eq_getElem?_getD, xE_setI, xsz_setI, xsl_setI, xtag_setI, xown_setI, xlen_setI, xE_setR, xsz_setR, xsl_setR, xtag_setR, xown_setR, xlen_setR, xE_setW, xsz_setW, xsl_setW, xtag_setW, xown_setW, xlen_setW, xi_setR, xi_setW, xr_setI, xr_setW, xww_setI, xww_setR, xi_setI, xr_setR, xww_setW, xE_new, xsz_new, xsl_new, s1, s3, s4, s5, xsub]; done) | (simp [-List.getD_eq_getElem?_getD, xE_setI, xsz_setI, xsl_setI, xtag_setI, xown_setI, xlen_setI, xE_setR, xsz_setR, xsl_setR, xtag_setR, xown_setR, xlen_setR, xE_setW, xsz_setW, xsl_setW, xtag_setW, xown_setW, xlen_setW, xi_setR, xi_setW, xr_setI, xr_setW, xww_setI, xww_setR, xi_setI, xr_setR, xww_setW, xE_new, xsz_new, xsl_new, s1, s3, s4, s5] <;> rfl)) (by simp [-List.getD_eq_getElem?_getD, xE_setI, xsz_setI, xsl_setI, xtag_setI, xown_setI, xlen_setI, xE_setR, xsz_setR, xsl_setR, xtag_setR, xown_setR, xlen_setR, xE_setW, xsz_setW, xsl_setW, xtag_setW, xown_setW, xlen_setW, xi_setR, xi_setW, xr_setI, xr_setW, xww_setI, xww_setR, xi_setI, xr_setR, xww_setW, xE_new, xsz_new, xsl_new, s1, s3, s4, s5]) ?_
  refine xn_ishr (c := (xlen g v)) (pc := 9) dJ7_ensureCapacityInternal_9 (by decide) (by first | omega | (simp; done) | (simp; omega)) (by omega) ?_
  refine xw_istore_n (l' := [(2, _), (0, _), (1, _)]) (pc := 10) dJ7_ensureCapacityInternal_10 rfl (by decide) rfl ?_
  refine xw_iload_n (pc := 11) dJ7_ensureCapacityInternal_11 2 rfl ?_
  refine xw_iload_n (pc := 12) dJ7_ensureCapacityInternal_12 0 rfl ?_
  refine xw_isub (pc := 13) dJ7_ensureCapacityInternal_13 ?_
  refine xw_if_le (pc := 14) 38 dJ7_ensureCapacityInternal_14 rfl (fun hb14 => ?_) (fun hb14 => ?_)
  rotate_left
  · exfalso
    exact hb14 (nI_subLe (by omega) (by omega))
  refine xw_vret (pc := 38) dJ7_ensureCapacityInternal_38 rfl ?_
  exact ⟨rfl, rfl⟩

theorem SP_J7_ensureG_0 {d : Nat} {g : xG} {k : Nat} {o b v n : Nat} {ch : Nat → Nat} (hS : xBL g o b v n ch) (ho : o ≠ 0) (hk : (xlen g v) < k) (hk2 : k ≤ 300) : XM M_J7_ensureCapacityInternal (d + 4) [.ref b, .int (nI k)] g (xVoid (fun g' => ∃ v', xBL g' o b v' n ch ∧ k ≤ xlen g' v' ∧ xFr (oEq o) 1300 g g')) := by
  have hS0 := hS
  obtain ⟨⟨s1, s2, s3, s7, s5, s6⟩, s4, s8, s9, s10⟩ := hS
  have hbz : b < xsz g := xlt (by rw [s1]; decide)
  refine xm_of (by decide +kernel) (Nat.le_of_ble_eq_true rfl) ?_
  show XW _ _ 0 [(0, _), (1, _)] [] _ _
  refine xw_aload_n (pc := 0) dJ7_ensureCapacityInternal_0 0 rfl ?_
  refine xw_getS (b := v) (pc := 1) fd_J7_15 dJ7_ensureCapacityInternal_1 (by first | assumption | (simp [-List.getD_eq_getElem?_getD, xE_setI, xsz_setI, xsl_setI, xtag_setI, xown_setI, xlen_setI, xE_setR, xsz_setR, xsl_setR, xtag_setR, xown_setR, xlen_setR, xE_setW, xsz_setW, xsl_setW, xtag_setW, xown_setW, xlen_setW, xi_setR, xi_setW, xr_setI, xr_setW, xww_setI, xww_setR, xi_setI, xr_setR, xww_setW, xE_new, xsz_new, xsl_new, s1, s3, s4, s5, xsub]; done) | (simp [-List.getD_eq_getElem?_getD, xE_setI, xsz_setI, xsl_setI, xtag_setI, xown_setI, xlen_setI, xE_setR, xsz_setR, xsl_setR, xtag_setR, xown_setR, xlen_setR, xE_setW, xsz_setW, xsl_setW, xtag_setW, xown_setW, xlen_setW, xi_setR, xi_setW, xr_setI, xr_setW, xww_setI, xww_setR, xi_setI, xr_setR, xww_setW, xE_new, xsz_new, xsl_new, s1, s3, s4, s5] <;> rfl)) (by simp [-List.getD_eq_getElem?_getD, xE_setI, xsz_setI, xsl_setI, xtag_setI, xown_setI, xlen_setI, xE_setR, xsz_setR, xsl_setR, xtag_setR, xown_setR, xlen_setR, xE_setW, xsz_setW, xsl_setW, xtag_setW, xown_setW, xlen_setW, xi_setR, xi_setW, xr_setI, xr_setW, xww_setI, xww_setR, xi_setI, xr_setR, xww_setW, xE_new, xsz_new, xsl_new, s1, s3, s4, s5]) ?_
  refine xw_alen (q := 2) (pc := 4) dJ7_ensureCapacityInternal_4 (by simp [-List.getD_eq_getElem?_getD, xE_setI, xsz_setI, xsl_setI, xtag_setI, xown_setI, xlen_setI, xE_setR, xsz_setR, xsl_setR, xtag_setR, xown_setR, xlen_setR, xE_setW, xsz_setW, xsl_setW, xtag_setW, xown_setW, xlen_setW, xi_setR, xi_setW, xr_setI, xr_setW, xww_setI, xww_setR, xi_setI, xr_setR, xww_setW, xE_new, xsz_new, xsl_new, s1, s3, s4, s5]) (by first | decide | omega) ?_
  rw [show xlen _ v = (xlen g v) from by simp [-List.getD_eq_getElem?_getD, xE_setI, xsz_setI, xsl_setI, xtag_setI, xown_setI, xlen_setI, xE_setR, xsz_setR, xsl_setR, xtag_setR, xown_setR, xlen_setR, xE_setW, xsz_setW, xsl_setW, xtag_setW, xown_setW, xlen_setW, xi_setR, xi_setW, xr_setI, xr_setW, xww_setI, xww_setR, xi_setI, xr_setR, xww_setW, xE_new, xsz_new, xsl_new, s1, s3, s4, s5]]
  refine xw_aload_n (pc := 5) dJ7_ensureCapacityInternal_5 0 rfl ?_
  refine xw_getNat (k := 0) (pc := 6) fd_J7_22 dJ7_ensureCapacityInternal_6 (by first | assumption | (simp [-List.getD_eq_getElem?_getD, xE_setI, xsz_setI, xsl_setI, xtag_setI, xown_setI, xlen_setI, xE_setR, xsz_setR, xsl_setR, xtag_setR, xown_setR, xlen_setR, xE_setW, xsz_setW, xsl_setW, xtag_setW, xown_setW, xlen_setW, xi_setR, xi_setW, xr_setI, xr_setW, xww_setI, xww_setR, xi_setI, xr_setR, xww_setW, xE_new, xsz_new, xsl_new, s1, s3, s4, s5, xsub]; done) | (simp [-List.getD_eq_getElem?_getD, xE_setI, xsz_setI, xsl_setI, xtag_setI, xown_setI, xlen_setI, xE_setR, xsz_setR, xsl_setR, xtag_setR, xown_setR, xlen_setR, xE_setW, xsz_setW, xsl_setW, xtag_setW, xown_setW, xlen_setW, xi_setR, xi_setW, xr_setI, xr_setW, xww_setI, xww_setR, xi_setI, xr_setR, xww_setW, xE_new, xsz_new, xsl_new, s1, s3, s4, s5] <;> rfl)) (by simp [-List.getD_eq_getElem?_getD, xE_setI, xsz_setI, xsl_setI, xtag_setI, xown_setI, xlen_setI, xE_setR, xsz_setR, xsl_setR, xtag_setR, xown_setR, xlen_setR, xE_setW, xsz_setW, xsl_setW, xtag_setW, xown_setW, xlen_setW, xi_setR, xi_setW, xr_setI, xr_setW, xww_setI, xww_setR, xi_setI, xr_setR, xww_setW, xE_new, xsz_new, xsl_new, s1, s3, s4, s5]) ?_
  refine xn_ishr (c := (xlen g v)) (pc := 9) dJ7_ensureCapacityInternal_9 (by decide) (by first | omega | (simp; done) | (simp; omega)) (by omega) ?_
  refine xw_istore_n (l' := [(2, _), (0, _), (1, _)]) (pc := 10) dJ7_ensureCapacityInternal_10 rfl (by decide) rfl ?_
  refine xw_iload_n (pc := 11) dJ7_ensureCapacityInternal_11 2 rfl ?_
  refine xw_iload_n (pc := 12) dJ7_ensureCapacityInternal_12 0 rfl ?_
  refine xn_isub (pc := 13) dJ7_ensureCapacityInternal_13 (by omega) ?_
  refine xw_if_le (pc := 14) 38 dJ7_ensureCapacityInternal_14 rfl (fun hb14 => ?_) (fun hb14 => ?_)
  · exfalso
    replace hb14 : (k - (xlen g v)) ≤ 0 := (nI_leI (a := (k - (xlen g v))) (b := 0) (by omega) (by omega)).mp hb14
    omega
  replace hb14 : ¬ ((k - (xlen g v)) ≤ 0) := mt (nI_leI (a := (k - (xlen g v))) (b := 0) (by omega) (by omega)).mpr hb14
  refine xw_aload_n (pc := 17) dJ7_ensureCapacityInternal_17 1 rfl ?_
  refine xw_aload_n (pc := 18) dJ7_ensureCapacityInternal_18 1 rfl ?_
  refine xw_getS (b := v) (pc := 19) fd_J7_15 dJ7_ensureCapacityInternal_19 (by first | assumption | (simp [-List.getD_eq_getElem?_getD, xE_setI, xsz_setI, xsl_setI, xtag_setI, xown_setI, xlen_setI, xE_setR, xsz_setR, xsl_setR, xtag_setR, xown_setR, xlen_setR, xE_setW, xsz_setW, xsl_setW, xtag_setW, xown_setW, xlen_setW, xi_setR, xi_setW, xr_setI, xr_setW, xww_setI, xww_setR, xi_setI, xr_setR, xww_setW, xE_new, xsz_new, xsl_new, s1, s3, s4, s5, xsub]; done) | (simp [-List.getD_eq_getElem?_getD, xE_setI, xsz_setI, xsl_setI, xtag_setI, xown_setI, xlen_setI, xE_setR, xsz_setR, xsl_setR, xtag_setR, xown_setR, xlen_setR, xE_setW, xsz_setW, xsl_setW, xtag_setW, xown_setW, xlen_setW, xi_setR, xi_setW, xr_setI, xr_setW, xww_setI, xww_setR, xi_setI, xr_setR, xww_setW, xE_new, xsz_new, xsl_new, s1, s3, s4, s5] <;> rfl)) (by simp [-List.getD_eq_getElem?_getD, xE_setI, xsz_setI, xsl_setI, xtag_setI, xown_setI, xlen_setI, xE_setR, xsz_setR, xsl_setR, xtag_setR, xown_setR, xlen_setR, xE_setW, xsz_setW, xsl_setW, xtag_setW, xown_setW, xlen_setW, xi_setR, xi_setW, xr_setI, xr_setW, xww_setI, xww_setR, xi_setI, xr_setR, xww_setW, xE_new, xsz_new, xsl_new, s1, s3, s4, s5]) ?_
  refine xw_aload_n (pc := 22) dJ7_ensureCapacityInternal_22 1 rfl ?_
  refine xw_iload_n (pc := 23) dJ7_ensureCapacityInternal_23 2 rfl ?_
  refine xw_callV (pc := 24) (xr_UP (as := [_]) ok_J7_newCapacity rfl (by decide) q269 q2768 q272 q271 (by rw [s1]; rfl) (by rw [s1]; exact q221) q270 dJ7_ensureCapacityInternal_24 rfl rfl (Nat.le_of_ble_eq_true rfl)) (SP_J7_newCapacity_0 s1 s3 s5 s4 s9 hk hk2) ?_
  refine xw_aload_n (pc := 27) dJ7_ensureCapacityInternal_27 1 rfl ?_
  refine xw_getNat (k := 0) (pc := 28) fd_J7_22 dJ7_ensureCapacityInternal_28 (by first | assumption | (simp [-List.getD_eq_getElem?_getD, xE_setI, xsz_setI, xsl_setI, xtag_setI, xown_setI, xlen_setI, xE_setR, xsz_setR, xsl_setR, xtag_setR, xown_setR, xlen_setR, xE_setW, xsz_setW, xsl_setW, xtag_setW, xown_setW, xlen_setW, xi_setR, xi_setW, xr_setI, xr_setW, xww_setI, xww_setR, xi_setI, xr_setR, xww_setW, xE_new, xsz_new, xsl_new, s1, s3, s4, s5, xsub]; done) | (simp [-List.getD_eq_getElem?_getD, xE_setI, xsz_setI, xsl_setI, xtag_setI, xown_setI, xlen_setI, xE_setR, xsz_setR, xsl_setR, xtag_setR, xown_setR, xlen_setR, xE_setW, xsz_setW, xsl_setW, xtag_setW, xown_setW, xlen_setW, xi_setR, xi_setW, xr_setI, xr_setW, xww_setI, xww_setR, xi_setI, xr_setR, xww_setW, xE_new, xsz_new, xsl_new, s1, s3, s4, s5] <;> rfl)) (by simp [-List.getD_eq_getElem?_getD, xE_setI, xsz_setI, xsl_setI, xtag_setI, xown_setI, xlen_setI, xE_setR, xsz_setR, xsl_setR, xtag_setR, xown_setR, xlen_setR, xE_setW, xsz_setW, xsl_setW, xtag_setW, xown_setW, xlen_setW, xi_setR, xi_setW, xr_setI, xr_setW, xww_setI, xww_setR, xi_setI, xr_setR, xww_setW, xE_new, xsz_new, xsl_new, s1, s3, s4, s5]) ?_
  refine xn_ishl (c := ((xlen g v) + max (k - (xlen g v)) ((xlen g v) + 2))) (pc := 31) dJ7_ensureCapacityInternal_31 (by decide) (by first | omega | (simp; done) | (simp; omega)) ?_
  refine xw_callF (pc := 32) (xr_S (as := [_, _]) ok_J13_copyOf rfl (by decide) q284 q285 dJ7_ensureCapacityInternal_32 rfl rfl (Nat.le_of_ble_eq_true rfl)) (SP_J13_copyOf s5 ho (by omega) (by omega)) ?_
  intro g32 hc32 hm32
  obtain ⟨c1, c2, c3, c4, c5⟩ := hc32
  have tb32 : xtag g32 b = 19 := (c5.tag hbz).trans s1
  have ob32 : xown g32 b ≠ 0 := by rw [c5.own hbz, s2]; exact ho
  refine xw_putR (o := (some (xsz g))) (pc := 35) fd_J7_15 (xfin_of (by decide) (by decide +kernel)) dJ7_ensureCapacityInternal_35 (by first | assumption | (simp [-List.getD_eq_getElem?_getD, xE_setI, xsz_setI, xsl_setI, xtag_setI, xown_setI, xlen_setI, xE_setR, xsz_setR, xsl_setR, xtag_setR, xown_setR, xlen_setR, xE_setW, xsz_setW, xsl_setW, xtag_setW, xown_setW, xlen_setW, xi_setR, xi_setW, xr_setI, xr_setW, xww_setI, xww_setR, xi_setI, xr_setR, xww_setW, xE_new, xsz_new, xsl_new, s1, s3, s4, s5, tb32, ob32, xsub]; done) | (simp [-List.getD_eq_getElem?_getD, xE_setI, xsz_setI, xsl_setI, xtag_setI, xown_setI, xlen_setI, xE_setR, xsz_setR, xsl_setR, xtag_setR, xown_setR, xlen_setR, xE_setW, xsz_setW, xsl_setW, xtag_setW, xown_setW, xlen_setW, xi_setR, xi_setW, xr_setI, xr_setW, xww_setI, xww_setR, xi_setI, xr_setR, xww_setW, xE_new, xsz_new, xsl_new, s1, s3, s4, s5, tb32, ob32] <;> rfl)) (by first | assumption | (simp [-List.getD_eq_getElem?_getD, xE_setI, xsz_setI, xsl_setI, xtag_setI, xown_setI, xlen_setI, xE_setR, xsz_setR, xsl_setR, xtag_setR, xown_setR, xlen_setR, xE_setW, xsz_setW, xsl_setW, xtag_setW, xown_setW, xlen_setW, xi_setR, xi_setW, xr_setI, xr_setW, xww_setI, xww_setR, xi_setI, xr_setR, xww_setW, xE_new, xsz_new, xsl_new, s1, s3, s4, s5, tb32, ob32]; done) | (simp [-List.getD_eq_getElem?_getD, xE_setI, xsz_setI, xsl_setI, xtag_setI, xown_setI, xlen_setI, xE_setR, xsz_setR, xsl_setR, xtag_setR, xown_setR, xlen_setR, xE_setW, xsz_setW, xsl_setW, xtag_setW, xown_setW, xlen_setW, xi_setR, xi_setW, xr_setI, xr_setW, xww_setI, xww_setR, xi_setI, xr_setR, xww_setW, xE_new, xsz_new, xsl_new, s1, s3, s4, s5, tb32, ob32]; assumption)) rfl ?_
  refine xw_vret (pc := 38) dJ7_ensureCapacityInternal_38 rfl ?_
  refine ⟨rfl, xsz g, hS0.arr c5 c1 c2 (by rw [c3]; omega) (by rw [c3]; omega) c4, ?_, ?_⟩
  · rw [xlen_setR, c3]; omega
  · exact ((c5.sub (O' := oEq o) (m := 1300) (fun o h => h.elim) (by omega)).sr (Or.inr (by unfold oEq; rw [c5.own hbz]; exact s2)))

theorem SP_J7_ensure_0 {d : Nat} {g : xG} {k : Nat} {o b v n : Nat} {ch : Nat → Nat} (hS : xBL g o b v n ch) (ho : o ≠ 0) (hk2 : k ≤ 300) : XM M_J7_ensureCapacityInternal (d + 4) [.ref b, .int (nI k)] g (xVoid (fun g' => ∃ v', xBL g' o b v' n ch ∧ k ≤ xlen g' v' ∧ xFr (oEq o) 1300 g g')) := by
  by_cases hk : k ≤ xlen g v
  · refine (SP_J7_ensureN_0 (d := d) hS.1.1 hS.1.2.2.1 hS.1.2.2.2.2.1 hS.2.1 hS.2.2.2.1 hk).mono (fun rs g' h _ => ?_)
    obtain ⟨rfl, rfl⟩ := h
    exact ⟨rfl, v, hS, hk, xFr.rf⟩
  · exact SP_J7_ensureG_0 hS ho (by omega) hk2
theorem SP_J7_newCapacity_1 {d : Nat} {g : xG} {k : Nat} {b v : Nat} (s1 : xtag g b = 19) (s3 : xr g b 0 = some v) (s5 : xtag g v = 103) (s4 : xi g b 1 = nI 1) (hl : xlen g v ≤ 2000) (hk : (xlen g v) < (k * 2)) (hk2 : k ≤ 300) : XM M_J7_newCapacity (d + 2) [.ref b, .int (nI k)] g (xOne (some (.int (nI (((xlen g v) + max ((k * 2) - (xlen g v)) ((xlen g v) + (2 * 2))) / 2)))) g) := by
  refine xm_of (by decide +kernel) (Nat.le_of_ble_eq_true rfl) ?_
  show XW _ _ 0 [(0, _), (1, _)] [] _ _
  refine xw_aload_n (pc := 0) dJ7_newCapacity_0 0 rfl ?_
  refine xw_getS (b := v) (pc := 1) fd_J7_15 dJ7_newCapacity_1 (by first | assumption | (simp [-List.getD_eq_getElem?_getD, xE_setI, xsz_setI, xsl_setI, xtag_setI, xown_setI, xlen_setI, xE_setR, xsz_setR, xsl_setR, xtag_setR, xown_setR, xlen_setR, xE_setW, xsz_setW, xsl_setW, xtag_setW, xown_setW, xlen_setW, xi_setR, xi_setW, xr_setI, xr_setW, xww_setI, xww_setR, xi_setI, xr_setR, xww_setW, xE_new, xsz_new, xsl_new, s1, s3, s4, s5, xsub]; done) | (simp [-List.getD_eq_getElem?_getD, xE_setI, xsz_setI, xsl_setI, xtag_setI, xown_setI, xlen_setI, xE_setR, xsz_setR, xsl_setR, xtag_setR, xown_setR, xlen_setR, xE_setW, xsz_setW, xsl_setW, xtag_setW, xown_setW, xlen_setW, xi_setR, xi_setW, xr_setI, xr_setW, xww_setI, xww_setR, xi_setI, xr_setR, xww_setW, xE_new, xsz_new, xsl_new, s1, s3, s4, s5] <;> rfl)) (by simp [-List.getD_eq_getElem?_getD, xE_setI, xsz_setI, xsl_setI, xtag_setI, xown_setI, xlen_setI, xE_setR, xsz_setR, xsl_setR, xtag_setR, xown_setR, xlen_setR, xE_setW, xsz_setW, xsl_setW, xtag_setW, xown_setW, xlen_setW, xi_setR, xi_setW, xr_setI, xr_setW, xww_setI, xww_setR, xi_setI, xr_setR, xww_setW, xE_new, xsz_new, xsl_new, s1, s3, s4, s5]) ?_
  refine xw_alen (q := 2) (pc := 4) dJ7_newCapacity_4 (by simp [-List.getD_eq_getElem?_getD, xE_setI, xsz_setI, xsl_setI, xtag_setI, xown_setI, xlen_setI, xE_setR, xsz_setR, xsl_setR, xtag_setR, xown_setR, xlen_setR, xE_setW, xsz_setW, xsl_setW, xtag_setW, xown_setW, xlen_setW, xi_setR, xi_setW, xr_setI, xr_setW, xww_setI, xww_setR, xi_setI, xr_setR, xww_setW, xE_new, xsz_new, xsl_new, s1, s3, s4, s5]) (by first | decide | omega) ?_
  rw [show xlen _ v = (xlen g v) from by simp [-List.getD_eq_getElem?_getD, xE_setI, xsz_setI, xsl_setI, xtag_setI, xown_setI, xlen_setI, xE_setR, xsz_setR, xsl_setR, xtag_setR, xown_setR, xlen_setR, xE_setW, xsz_setW, xsl_setW, xtag_setW, xown_setW, xlen_setW, xi_setR, xi_setW, xr_setI, xr_setW, xww_setI, xww_setR, xi_setI, xr_setR, xww_setW, xE_new, xsz_new, xsl_new, s1, s3, s4, s5]]
  refine xw_istore_n (l' := [(2, _), (0, _), (1, _)]) (pc := 5) dJ7_newCapacity_5 rfl (by decide) rfl ?_
  refine xw_iload_n (pc := 6) dJ7_newCapacity_6 2 rfl ?_
  refine xw_aload_n (pc := 7) dJ7_newCapacity_7 1 rfl ?_
  refine xw_getNat (k := 1) (pc := 8) fd_J7_22 dJ7_newCapacity_8 (by first | assumption | (simp [-List.getD_eq_getElem?_getD, xE_setI, xsz_setI, xsl_setI, xtag_setI, xown_setI, xlen_setI, xE_setR, xsz_setR, xsl_setR, xtag_setR, xown_setR, xlen_setR, xE_setW, xsz_setW, xsl_setW, xtag_setW, xown_setW, xlen_setW, xi_setR, xi_setW, xr_setI, xr_setW, xww_setI, xww_setR, xi_setI, xr_setR, xww_setW, xE_new, xsz_new, xsl_new, s1, s3, s4, s5, xsub]; done) | (simp [-List.getD_eq_getElem?_getD, xE_setI, xsz_setI, xsl_setI, xtag_setI, xown_setI, xlen_setI, xE_setR, xsz_setR, xsl_setR, xtag_setR, xown_setR, xlen_setR, xE_setW, xsz_setW, xsl_setW, xtag_setW, xown_setW, xlen_setW, xi_setR, xi_setW, xr_setI, xr_setW, xww_setI, xww_setR, xi_setI, xr_setR, xww_setW, xE_new, xsz_new, xsl_new, s1, s3, s4, s5] <;> rfl)) (by simp [-List.getD_eq_getElem?_getD, xE_setI, xsz_setI, xsl_setI, xtag_setI, xown_setI, xlen_setI, xE_setR, xsz_setR, xsl_setR, xtag_setR, xown_setR, xlen_setR, xE_setW, xsz_setW, xsl_setW, xtag_setW, xown_setW, xlen_setW, xi_setR, xi_setW, xr_setI, xr_setW, xww_setI, xww_setR, xi_setI, xr_setR, xww_setW, xE_new, xsz_new, xsl_new, s1, s3, s4, s5]) ?_
  refine xn_ishl (c := (k * 2)) (pc := 11) dJ7_newCapacity_11 (by decide) (by first | omega | (simp; done) | (simp; omega)) ?_
  refine xw_istore_n (l' := [(3, _), (2, _), (0, _), (1, _)]) (pc := 12) dJ7_newCapacity_12 rfl (by decide) rfl ?_
  refine xw_iload_n (pc := 13) dJ7_newCapacity_13 0 rfl ?_
  refine xw_iload_n (pc := 14) dJ7_newCapacity_14 1 rfl ?_
  refine xn_isub (pc := 15) dJ7_newCapacity_15 (by omega) ?_
  refine xw_istore (l' := [(4, _), (3, _), (2, _), (0, _), (1, _)]) (pc := 16) dJ7_newCapacity_16 (by decide) rfl ?_
  refine xw_iload_n (pc := 18) dJ7_newCapacity_18 2 rfl ?_
  refine xw_iload (pc := 19) dJ7_newCapacity_19 0 rfl ?_
  refine xw_iload_n (pc := 21) dJ7_newCapacity_21 2 rfl ?_
  refine xw_iconst (v := nI 2) (pc := 22) dJ7_newCapacity_22 rfl ?_
  refine xw_aload_n (pc := 23) dJ7_newCapacity_23 3 rfl ?_
  refine xw_getNat (k := 1) (pc := 24) fd_J7_22 dJ7_newCapacity_24 (by first | assumption | (simp [-List.getD_eq_getElem?_getD, xE_setI, xsz_setI, xsl_setI, xtag_setI, xown_setI, xlen_setI, xE_setR, xsz_setR, xsl_setR, xtag_setR, xown_setR, xlen_setR, xE_setW, xsz_setW, xsl_setW, xtag_setW, xown_setW, xlen_setW, xi_setR, xi_setW, xr_setI, xr_setW, xww_setI, xww_setR, xi_setI, xr_setR, xww_setW, xE_new, xsz_new, xsl_new, s1, s3, s4, s5, xsub]; done) | (simp [-List.getD_eq_getElem?_getD, xE_setI, xsz_setI, xsl_setI, xtag_setI, xown_setI, xlen_setI, xE_setR, xsz_setR, xsl_setR, xtag_setR, xown_setR, xlen_setR, xE_setW, xsz_setW, xsl_setW, xtag_setW, xown_setW, xlen_setW, xi_setR, xi_setW, xr_setI, xr_setW, xww_setI, xww_setR, xi_setI, xr_setR, xww_setW, xE_new, xsz_new, xsl_new, s1, s3, s4, s5] <;> rfl)) (by simp [-List.getD_eq_getElem?_getD, xE_setI, xsz_setI, xsl_setI, xtag_setI, xown_setI, xlen_setI, xE_setR, xsz_setR, xsl_setR, xtag_setR, xown_setR, xlen_setR, xE_setW, xsz_setW, xsl_setW, xtag_setW, xown_setW, xlen_setW, xi_setR, xi_setW, xr_setI, xr_setW, xww_setI, xww_setR, xi_setI, xr_setR, xww_setW, xE_new, xsz_new, xsl_new, s1, s3, s4, s5]) ?_
  refine xn_ishl (c := (2 * 2)) (pc := 27) dJ7_newCapacity_27 (by decide) (by first | omega | (simp; done) | (simp; omega)) ?_
  refine xn_iadd (pc := 28) dJ7_newCapacity_28 ?_
  refine xw_callV (pc := 29) (xr_S (as := [_, _, _]) ok_J11_newLength rfl (by decide) q273 q274 dJ7_newCapacity_29 rfl rfl (Nat.le_of_ble_eq_true rfl)) (SP_J11_newLength (by omega) (by omega) (by omega) (by omega)) ?_
  refine xw_istore (l' := [(5, _), (4, _), (3, _), (2, _), (0, _), (1, _)]) (pc := 32) dJ7_newCapacity_32 (by decide) rfl ?_
  refine xw_iload (pc := 34) dJ7_newCapacity_34 0 rfl ?_
  refine xw_ldc (v := nI 2147483647) (pc := 36) dJ7_newCapacity_36 q283 ?_
  refine xw_icmp_ne (pc := 38) 51 dJ7_newCapacity_38 rfl (fun hb38 => ?_) (fun hb38 => ?_)
  rotate_left
  · exfalso
    replace hb38 : ((xlen g v) + max ((k * 2) - (xlen g v)) ((xlen g v) + (2 * 2))) = 2147483647 := (nI_eq (a := ((xlen g v) + max ((k * 2) - (xlen g v)) ((xlen g v) + (2 * 2)))) (b := 2147483647) (by omega) (by omega)).mp hb38
    omega
  replace hb38 : ¬ (((xlen g v) + max ((k * 2) - (xlen g v)) ((xlen g v) + (2 * 2))) = 2147483647) := mt (nI_eq (a := ((xlen g v) + max ((k * 2) - (xlen g v)) ((xlen g v) + (2 * 2)))) (b := 2147483647) (by omega) (by omega)).mpr hb38
  refine xw_iload (pc := 51) dJ7_newCapacity_51 0 rfl ?_
  refine xw_aload_n (pc := 53) dJ7_newCapacity_53 4 rfl ?_
  refine xw_getNat (k := 1) (pc := 54) fd_J7_22 dJ7_newCapacity_54 (by first | assumption | (simp [-List.getD_eq_getElem?_getD, xE_setI, xsz_setI, xsl_setI, xtag_setI, xown_setI, xlen_setI, xE_setR, xsz_setR, xsl_setR, xtag_setR, xown_setR, xlen_setR, xE_setW, xsz_setW, xsl_setW, xtag_setW, xown_setW, xlen_setW, xi_setR, xi_setW, xr_setI, xr_setW, xww_setI, xww_setR, xi_setI, xr_setR, xww_setW, xE_new, xsz_new, xsl_new, s1, s3, s4, s5, xsub]; done) | (simp [-List.getD_eq_getElem?_getD, xE_setI, xsz_setI, xsl_setI, xtag_setI, xown_setI, xlen_setI, xE_setR, xsz_setR, xsl_setR, xtag_setR, xown_setR, xlen_setR, xE_setW, xsz_setW, xsl_setW, xtag_setW, xown_setW, xlen_setW, xi_setR, xi_setW, xr_setI, xr_setW, xww_setI, xww_setR, xi_setI, xr_setR, xww_setW, xE_new, xsz_new, xsl_new, s1, s3, s4, s5] <;> rfl)) (by simp [-List.getD_eq_getElem?_getD, xE_setI, xsz_setI, xsl_setI, xtag_setI, xown_setI, xlen_setI, xE_setR, xsz_setR, xsl_setR, xtag_setR, xown_setR, xlen_setR, xE_setW, xsz_setW, xsl_setW, xtag_setW, xown_setW, xlen_setW, xi_setR, xi_setW, xr_setI, xr_setW, xww_setI, xww_setR, xi_setI, xr_setR, xww_setW, xE_new, xsz_new, xsl_new, s1, s3, s4, s5]) ?_
  refine xn_ishr (c := (((xlen g v) + max ((k * 2) - (xlen g v)) ((xlen g v) + (2 * 2))) / 2)) (pc := 57) dJ7_newCapacity_57 (by decide) (by first | omega | (simp; done) | (simp; omega)) (by omega) ?_
  refine xw_iret (pc := 58) .int dJ7_newCapacity_58 rfl ?_ 
  exact ⟨rfl, rfl⟩

theorem SP_J7_ensureN_1 {d : Nat} {g : xG} {k : Nat} {b v : Nat} (s1 : xtag g b = 19) (s3 : xr g b 0 = some v) (s5 : xtag g v = 103) (s4 : xi g b 1 = nI 1) (hl : xlen g v ≤ 2000) (hk : k * 2 ≤ (xlen g v)) : XM M_J7_ensureCapacityInternal (d + 4) [.ref b, .int (nI k)] g (xOne none g) := by
  refine xm_of (by decide +kernel) (Nat.le_of_ble_eq_true rfl) ?_
  show XW _ _ 0 [(0, _), (1, _)] [] _ _
  refine xw_aload_n (pc := 0) dJ7_ensureCapacityInternal_0 0 rfl ?_
  refine xw_getS (b := v) (pc := 1) fd_J7_15 dJ7_ensureCapacityInternal_1 (by first | assumption | (simp [-List.getD_eq_getElem?_getD, xE_setI, xsz_setI, xsl_setI, xtag_setI, xown_setI, xlen_setI, xE_setR, xsz_setR, xsl_setR, xtag_setR, xown_setR, xlen_setR, xE_setW, xsz_setW, xsl_setW, xtag_setW, xown_setW, xlen_setW, xi_setR, xi_setW, xr_setI, xr_setW, xww_setI, xww_setR, xi_setI, xr_setR, xww_setW, xE_new, xsz_new, xsl_new, s1, s3, s4, s5, xsub]; done) | (simp [-List.getD_eq_getElem?_getD, xE_setI, xsz_setI, xsl_setI, xtag_setI, xown_setI, xlen_setI, xE_setR, xsz_setR, xsl_setR, xtag_setR, xown_setR, xlen_setR, xE_setW, xsz_setW, xsl_setW, xtag_setW, xown_setW, xlen_setW, xi_setR, xi_setW, xr_setI, xr_setW, xww_setI, xww_setR, xi_setI, xr_setR, xww_setW, xE_new, xsz_new, xsl_new, s1, s3, s4, s5] <;> rfl)) (by simp [-List.getD_eq_getElem?_getD, xE_setI, xsz_setI, xsl_setI, xtag_setI, xown_setI, xlen_setI, xE_setR, xsz_setR, xsl_setR, xtag_setR, xown_setR, xlen_setR, xE_setW, xsz_setW, xsl_setW, xtag_setW, xown_setW, xlen_setW, xi_setR, xi_setW, xr_setI, xr_setW, xww_setI, xww_setR, xi_setI, xr_setR, xww_setW, xE_new, xsz_new, xsl_new, s1, s3, s4, s5]) ?_
  refine xw_alen (q := 2) (pc := 4) dJ7_ensureCapacityInternal_4 (by simp [-List.getD_eq_getElem?_getD, xE_setI, xsz_setI, xsl_setI, xtag_setI, xown_setI, xlen_setI, xE_setR, xsz_setR, xsl_setR, xtag_setR, xown_setR, xlen_setR, xE_setW, xsz_setW, xsl_setW, xtag_setW, xown_setW, xlen_setW, xi_setR, xi_setW, xr_setI, xr_setW, xww_setI, xww_setR, xi_setI, xr_setR, xww_setW, xE_new, xsz_new, xsl_new, s1, s3, s4, s5]) (by first | decide | omega) ?_
  rw [show xlen _ v = (xlen g v) from by simp [-List.getD_eq_getElem?_getD, xE_setI, xsz_setI, xsl_setI, xtag_setI, xown_setI, xlen_setI, xE_setR, xsz_setR, xsl_setR, xtag_setR, xown_setR, xlen_setR, xE_setW, xsz_setW, xsl_setW, xtag_setW, xown_setW, xlen_setW, xi_setR, xi_setW, xr_setI, xr_setW, xww_setI, xww_setR, xi_setI, xr_setR, xww_setW, xE_new, xsz_new, xsl_new, s1, s3, s4, s5]]
  refine xw_aload_n (pc := 5) dJ7_ensureCapacityInternal_5 0 rfl ?_
  refine xw_getNat (k := 1) (pc := 6) fd_J7_22 dJ7_ensureCapacityInternal_6 (by first | assumption | (simp [-List.getD_eq_getElem?_getD, xE_setI, xsz_setI, xsl_setI, xtag_setI, xown_setI, xlen_setI, xE_setR, xsz_setR, xsl_setR, xtag_setR, xown_setR, xlen_setR, xE_setW, xsz_setW, xsl_setW, xtag_setW, xown_setW, xlen_setW, xi_setR, xi_setW, xr_setI, xr_setW, xww_setI, xww_setR, xi_setI, xr_setR, xww_setW, xE_new, xsz_new, xsl_new, s1, s3, s4, s5, xsub]; done) | (simp [-List.getD_eq_getElem?_getD, xE_setI, xsz_setI, xsl_setI, xtag_setI, xown_setI, xlen_setI, xE_setR, xsz_setR, xsl_setR, xtag_setR, xown_setR, xlen_setR, xE_setW, xsz_setW, xsl_setW, xtag_setW, xown_setW, xlen_setW, xi_setR, xi_setW, xr_setI, xr_setW, xww_setI, xww_setR, xi_setI, xr_setR, xww_setW, xE_new, xsz_new, xsl_new, s1, s3, s4, s5] <;> rfl)) (by simp [-List.getD_eq_getElem?_getD, xE_setI, xsz_setI, xsl_setI, xtag_setI, xown_setI, xlen_setI, xE_setR, xsz_setR, xsl_setR, xtag_setR, xown_setR, xlen_setR, xE_setW, xsz_setW, xsl_setW, xtag_setW, xown_setW, xlen_setW, xi_setR, xi_setW, xr_setI, xr_setW, xww_setI, xww_setR, xi_setI, xr_setR, xww_setW, xE_new, xsz_new, xsl_new, s1, s3, s4, s5]) ?_
  refine xn_ishr (c := ((xlen g v) / 2)) (pc := 9) dJ7_ensureCapacityInternal_9 (by decide) (by first | omega | (simp; done) | (simp; omega)) (by omega) ?_
  refine xw_istore_n (l' := [(2, _), (0, _), (1, _)]) (pc := 10) dJ7_ensureCapacityInternal_10 rfl (by decide) rfl ?_
  refine xw_iload_n (pc := 11) dJ7_ensureCapacityInternal_11 2 rfl ?_
  refine xw_iload_n (pc := 12) dJ7_ensureCapacityInternal_12 0 rfl ?_
  refine xw_isub (pc := 13) dJ7_ensureCapacityInternal_13 ?_
  refine xw_if_le (pc := 14) 38 dJ7_ensureCapacityInternal_14 rfl (fun hb14 => ?_) (fun hb14 => ?_)
  rotate_left
  · exfalso
    exact hb14 (nI_subLe (by omega) (by omega))
  refine xw_vret (pc := 38) dJ7_ensureCapacityInternal_38 rfl ?_
  exact ⟨rfl, rfl⟩

theorem SP_J7_ensureG_1 {d : Nat} {g : xG} {k : Nat} {o b v n : Nat} {ch : Nat → Nat} (hS : xBU g o b v n ch) (ho : o ≠ 0) (hk : (xlen g v) < (k * 2)) (hk2 : k ≤ 300) : XM M_J7_ensureCapacityInternal (d + 4) [.ref b, .int (nI k)] g (xVoid (fun g' => ∃ v', xBU g' o b v' n ch ∧ (k * 2) ≤ xlen g' v' ∧ xFr (oEq o) 1300 g g')) := by
  have hS0 := hS
  obtain ⟨⟨s1, s2, s3, s7, s5, s6⟩, s4, s8, s9, s10⟩ := hS
  have hbz : b < xsz g := xlt (by rw [s1]; decide)
  refine xm_of (by decide +kernel) (Nat.le_of_ble_eq_true rfl) ?_
  show XW _ _ 0 [(0, _), (1, _)] [] _ _
  refine xw_aload_n (pc := 0) dJ7_ensureCapacityInternal_0 0 rfl ?_
  refine xw_getS (b := v) (pc := 1) fd_J7_15 dJ7_ensureCapacityInternal_1 (by first | assumption | (simp [-List.getD_eq_getElem?_getD, xE_setI, xsz_setI, xsl_setI, xtag_setI, xown_setI, xlen_setI, xE_setR, xsz_setR, xsl_setR, xtag_setR, xown_setR, xlen_setR, xE_setW, xsz_setW, xsl_setW, xtag_setW, xown_setW, xlen_setW, xi_setR, xi_setW, xr_setI, xr_setW, xww_setI, xww_setR, xi_setI, xr_setR, xww_setW, xE_new, xsz_new, xsl_new, s1, s3, s4, s5, xsub]; done) | (simp [-List.getD_eq_getElem?_getD, xE_setI, xsz_setI, xsl_setI, xtag_setI, xown_setI, xlen_setI, xE_setR, xsz_setR, xsl_setR, xtag_setR, xown_setR, xlen_setR, xE_setW, xsz_setW, xsl_setW, xtag_setW, xown_setW, xlen_setW, xi_setR, xi_setW, xr_setI, xr_setW, xww_setI, xww_setR, xi_setI, xr_setR, xww_setW, xE_new, xsz_new, xsl_new, s1, s3, s4, s5] <;> rfl)) (by simp [-List.getD_eq_getElem?_getD, xE_setI, xsz_setI, xsl_setI, xtag_setI, xown_setI, xlen_setI, xE_setR, xsz_setR, xsl_setR, xtag_setR, xown_setR, xlen_setR, xE_setW, xsz_setW, xsl_setW, xtag_setW, xown_setW, xlen_setW, xi_setR, xi_setW, xr_setI, xr_setW, xww_setI, xww_setR, xi_setI, xr_setR, xww_setW, xE_new, xsz_new, xsl_new, s1, s3, s4, s5]) ?_
  refine xw_alen (q := 2) (pc := 4) dJ7_ensureCapacityInternal_4 (by simp [-List.getD_eq_getElem?_getD, xE_setI, xsz_setI, xsl_setI, xtag_setI, xown_setI, xlen_setI, xE_setR, xsz_setR, xsl_setR, xtag_setR, xown_setR, xlen_setR, xE_setW, xsz_setW, xsl_setW, xtag_setW, xown_setW, xlen_setW, xi_setR, xi_setW, xr_setI, xr_setW, xww_setI, xww_setR, xi_setI, xr_setR, xww_setW, xE_new, xsz_new, xsl_new, s1, s3, s4, s5]) (by first | decide | omega) ?_
  rw [show xlen _ v = (xlen g v) from by simp [-List.getD_eq_getElem?_getD, xE_setI, xsz_setI, xsl_setI, xtag_setI, xown_setI, xlen_setI, xE_setR, xsz_setR, xsl_setR, xtag_setR, xown_setR, xlen_setR, xE_setW, xsz_setW, xsl_setW, xtag_setW, xown_setW, xlen_setW, xi_setR, xi_setW, xr_setI, xr_setW, xww_setI, xww_setR, xi_setI, xr_setR, xww_setW, xE_new, xsz_new, xsl_new, s1, s3, s4, s5]]
  refine xw_aload_n (pc := 5) dJ7_ensureCapacityInternal_5 0 rfl ?_
  refine xw_getNat (k := 1) (pc := 6) fd_J7_22 dJ7_ensureCapacityInternal_6 (by first | assumption | (simp [-List.getD_eq_getElem?_getD, xE_setI, xsz_setI, xsl_setI, xtag_setI, xown_setI, xlen_setI, xE_setR, xsz_setR, xsl_setR, xtag_setR, xown_setR, xlen_setR, xE_setW, xsz_setW, xsl_setW, xtag_setW, xown_setW, xlen_setW, xi_setR, xi_setW, xr_setI, xr_setW, xww_setI, xww_setR, xi_setI, xr_setR, xww_setW, xE_new, xsz_new, xsl_new, s1, s3, s4, s5, xsub]; done) | (simp [-List.getD_eq_getElem?_getD, xE_setI, xsz_setI, xsl_setI, xtag_setI, xown_setI, xlen_setI, xE_setR, xsz_setR, xsl_setR, xtag_setR, xown_setR, xlen_setR, xE_setW, xsz_setW, xsl_setW, xtag_setW, xown_setW, xlen_setW, xi_setR, xi_setW, xr_setI, xr_setW, xww_setI, xww_setR, xi_setI, xr_setR, xww_setW, xE_new, xsz_new, xsl_new, s1, s3, s4, s5] <;> rfl)) (by simp [-List.getD_eq_getElem?_getD, xE_setI, xsz_setI, xsl_setI, xtag_setI, xown_setI, xlen_setI, xE_setR, xsz_setR, xsl_setR, xtag_setR, xown_setR, xlen_setR, xE_setW, xsz_setW, xsl_setW, xtag_setW, xown_setW, xlen_setW, xi_setR, xi_setW, xr_setI, xr_setW, xww_setI, xww_setR, xi_setI, xr_setR, xww_setW, xE_new, xsz_new, xsl_new, s1, s3, s4, s5]) ?_
  refine xn_ishr (c := ((xlen g v) / 2)) (pc := 9) dJ7_ensureCapacityInternal_9 (by decide) (by first | omega | (simp; done) | (simp; omega)) (by omega) ?_
  refine xw_istore_n (l' := [(2, _), (0, _), (1, _)]) (pc := 10) dJ7_ensureCapacityInternal_10 rfl (by decide) rfl ?_
  refine xw_iload_n (pc := 11) dJ7_ensureCapacityInternal_11 2 rfl ?_
  refine xw_iload_n (pc := 12) dJ7_ensureCapacityInternal_12 0 rfl ?_
  refine xn_isub (pc := 13) dJ7_ensureCapacityInternal_13 (by omega) ?_
  refine xw_if_le (pc := 14) 38 dJ7_ensureCapacityInternal_14 rfl (fun hb14 => ?_) (fun hb14 => ?_)
  · exfalso
    replace hb14 : (k - ((xlen g v) / 2)) ≤ 0 := (nI_leI (a := (k - ((xlen g v) / 2))) (b := 0) (by omega) (by omega)).mp hb14
    omega
  replace hb14 : ¬ ((k - ((xlen g v) / 2)) ≤ 0) := mt (nI_leI (a := (k - ((xlen g v) / 2))) (b := 0) (by omega) (by omega)).mpr hb14
  refine xw_aload_n (pc := 17) dJ7_ensureCapacityInternal_17 1 rfl ?_
  refine xw_aload_n (pc := 18) dJ7_ensureCapacityInternal_18 1 rfl ?_
  refine xw_getS (b := v) (pc := 19) fd_J7_15 dJ7_ensureCapacityInternal_19 (by first | assumption | (simp [-List.getD_eq_getElem?_getD, xE_setI, xsz_setI, xsl_setI, xtag_setI, xown_setI, xlen_setI, xE_setR, xsz_setR, xsl_setR, xtag_setR, xown_setR, xlen_setR, xE_setW, xsz_setW, xsl_setW, xtag_setW, xown_setW, xlen_setW, xi_setR, xi_setW, xr_setI, xr_setW, xww_setI, xww_setR, xi_setI, xr_setR, xww_setW, xE_new, xsz_new, xsl_new, s1, s3, s4, s5, xsub]; done) | (simp [-List.getD_eq_getElem?_getD, xE_setI, xsz_setI, xsl_setI, xtag_setI, xown_setI, xlen_setI, xE_setR, xsz_setR, xsl_setR, xtag_setR, xown_setR, xlen_setR, xE_setW, xsz_setW, xsl_setW, xtag_setW, xown_setW, xlen_setW, xi_setR, xi_setW, xr_setI, xr_setW, xww_setI, xww_setR, xi_setI, xr_setR, xww_setW, xE_new, xsz_new, xsl_new, s1, s3, s4, s5] <;> rfl)) (by simp [-List.getD_eq_getElem?_getD, xE_setI, xsz_setI, xsl_setI, xtag_setI, xown_setI, xlen_setI, xE_setR, xsz_setR, xsl_setR, xtag_setR, xown_setR, xlen_setR, xE_setW, xsz_setW, xsl_setW, xtag_setW, xown_setW, xlen_setW, xi_setR, xi_setW, xr_setI, xr_setW, xww_setI, xww_setR, xi_setI, xr_setR, xww_setW, xE_new, xsz_new, xsl_new, s1, s3, s4, s5]) ?_
  refine xw_aload_n (pc := 22) dJ7_ensureCapacityInternal_22 1 rfl ?_
  refine xw_iload_n (pc := 23) dJ7_ensureCapacityInternal_23 2 rfl ?_
  refine xw_callV (pc := 24) (xr_UP (as := [_]) ok_J7_newCapacity rfl (by decide) q269 q2768 q272 q271 (by rw [s1]; rfl) (by rw [s1]; exact q221) q270 dJ7_ensureCapacityInternal_24 rfl rfl (Nat.le_of_ble_eq_true rfl)) (SP_J7_newCapacity_1 s1 s3 s5 s4 s9 hk hk2) ?_
  refine xw_aload_n (pc := 27) dJ7_ensureCapacityInternal_27 1 rfl ?_
  refine xw_getNat (k := 1) (pc := 28) fd_J7_22 dJ7_ensureCapacityInternal_28 (by first | assumption | (simp [-List.getD_eq_getElem?_getD, xE_setI, xsz_setI, xsl_setI, xtag_setI, xown_setI, xlen_setI, xE_setR, xsz_setR, xsl_setR, xtag_setR, xown_setR, xlen_setR, xE_setW, xsz_setW, xsl_setW, xtag_setW, xown_setW, xlen_setW, xi_setR, xi_setW, xr_setI, xr_setW, xww_setI, xww_setR, xi_setI, xr_setR, xww_setW, xE_new, xsz_new, xsl_new, s1, s3, s4, s5, xsub]; done) | (simp [-List.getD_eq_getElem?_getD, xE_setI, xsz_setI, xsl_setI, xtag_setI, xown_setI, xlen_setI, xE_setR, xsz_setR, xsl_setR, xtag_setR, xown_setR, xlen_setR, xE_setW, xsz_setW, xsl_setW, xtag_setW, xown_setW, xlen_setW, xi_setR, xi_setW, xr_setI, xr_setW, xww_setI, xww_setR, xi_setI, xr_setR, xww_setW, xE_new, xsz_new, xsl_new, s1, s3, s4, s5] <;> rfl)) (by simp [-List.getD_eq_getElem?_getD, xE_setI, xsz_setI, xsl_setI, xtag_setI, xown_setI, xlen_setI, xE_setR, xsz_setR, xsl_setR, xtag_setR, xown_setR, xlen_setR, xE_setW, xsz_setW, xsl_setW, xtag_setW, xown_setW, xlen_setW, xi_setR, xi_setW, xr_setI, xr_setW, xww_setI, xww_setR, xi_setI, xr_setR, xww_setW, xE_new, xsz_new, xsl_new, s1, s3, s4, s5]) ?_
  refine xn_ishl (c := ((((xlen g v) + max ((k * 2) - (xlen g v)) ((xlen g v) + (2 * 2))) / 2) * 2)) (pc := 31) dJ7_ensureCapacityInternal_31 (by decide) (by first | omega | (simp; done) | (simp; omega)) ?_
  refine xw_callF (pc := 32) (xr_S (as := [_, _]) ok_J13_copyOf rfl (by decide) q284 q285 dJ7_ensureCapacityInternal_32 rfl rfl (Nat.le_of_ble_eq_true rfl)) (SP_J13_copyOf s5 ho (by omega) (by omega)) ?_
  intro g32 hc32 hm32
  obtain ⟨c1, c2, c3, c4, c5⟩ := hc32
  have tb32 : xtag g32 b = 19 := (c5.tag hbz).trans s1
  have ob32 : xown g32 b ≠ 0 := by rw [c5.own hbz, s2]; exact ho
  refine xw_putR (o := (some (xsz g))) (pc := 35) fd_J7_15 (xfin_of (by decide) (by decide +kernel)) dJ7_ensureCapacityInternal_35 (by first | assumption | (simp [-List.getD_eq_getElem?_getD, xE_setI, xsz_setI, xsl_setI, xtag_setI, xown_setI, xlen_setI, xE_setR, xsz_setR, xsl_setR, xtag_setR, xown_setR, xlen_setR, xE_setW, xsz_setW, xsl_setW, xtag_setW, xown_setW, xlen_setW, xi_setR, xi_setW, xr_setI, xr_setW, xww_setI, xww_setR, xi_setI, xr_setR, xww_setW, xE_new, xsz_new, xsl_new, s1, s3, s4, s5, tb32, ob32, xsub]; done) | (simp [-List.getD_eq_getElem?_getD, xE_setI, xsz_setI, xsl_setI, xtag_setI, xown_setI, xlen_setI, xE_setR, xsz_setR, xsl_setR, xtag_setR, xown_setR, xlen_setR, xE_setW, xsz_setW, xsl_setW, xtag_setW, xown_setW, xlen_setW, xi_setR, xi_setW, xr_setI, xr_setW, xww_setI, xww_setR, xi_setI, xr_setR, xww_setW, xE_new, xsz_new, xsl_new, s1, s3, s4, s5, tb32, ob32] <;> rfl)) (by first | assumption | (simp [-List.getD_eq_getElem?_getD, xE_setI, xsz_setI, xsl_setI, xtag_setI, xown_setI, xlen_setI, xE_setR, xsz_setR, xsl_setR, xtag_setR, xown_setR, xlen_setR, xE_setW, xsz_setW, xsl_setW, xtag_setW, xown_setW, xlen_setW, xi_setR, xi_setW, xr_setI, xr_setW, xww_setI, xww_setR, xi_setI, xr_setR, xww_setW, xE_new, xsz_new, xsl_new, s1, s3, s4, s5, tb32, ob32]; done) | (simp [-List.getD_eq_getElem?_getD, xE_setI, xsz_setI, xsl_setI, xtag_setI, xown_setI, xlen_setI, xE_setR, xsz_setR, xsl_setR, xtag_setR, xown_setR, xlen_setR, xE_setW, xsz_setW, xsl_setW, xtag_setW, xown_setW, xlen_setW, xi_setR, xi_setW, xr_setI, xr_setW, xww_setI, xww_setR, xi_setI, xr_setR, xww_setW, xE_new, xsz_new, xsl_new, s1, s3, s4, s5, tb32, ob32]; assumption)) rfl ?_
  refine xw_vret (pc := 38) dJ7_ensureCapacityInternal_38 rfl ?_
  refine ⟨rfl, xsz g, hS0.arr c5 c1 c2 (by rw [c3]; omega) (by rw [c3]; omega) c4, ?_, ?_⟩
  · rw [xlen_setR, c3]; omega
  · exact ((c5.sub (O' := oEq o) (m := 1300) (fun o h => h.elim) (by omega)).sr (Or.inr (by unfold oEq; rw [c5.own hbz]; exact s2)))

theorem SP_J7_ensure_1 {d : Nat} {g : xG} {k : Nat} {o b v n : Nat} {ch : Nat → Nat} (hS : xBU g o b v n ch) (ho : o ≠ 0) (hk2 : k ≤ 300) : XM M_J7_ensureCapacityInternal (d + 4) [.ref b, .int (nI k)] g (xVoid (fun g' => ∃ v', xBU g' o b v' n ch ∧ (k * 2) ≤ xlen g' v' ∧ xFr (oEq o) 1300 g g')) := by
  by_cases hk : (k * 2) ≤ xlen g v
  · refine (SP_J7_ensureN_1 (d := d) hS.1.1 hS.1.2.2.1 hS.1.2.2.2.2.1 hS.2.1 hS.2.2.2.1 hk).mono (fun rs g' h _ => ?_)
    obtain ⟨rfl, rfl⟩ := h
    exact ⟨rfl, v, hS, hk, xFr.rf⟩
  · exact SP_J7_ensureG_1 hS ho (by omega) hk2
