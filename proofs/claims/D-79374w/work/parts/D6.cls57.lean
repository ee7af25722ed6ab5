/-! CLASS 57: the reader, whole -/
set_option maxRecDepth 100000
/-- a draft read: effect, exemption's rule, scope, tests, first, last, rank -/
abbrev xDf : Type := Option Nat × Option Nat × Nat × List xT3 × Nat × Nat × Nat
def rEn (n p : Nat) (D : xDf) : Except Nat xDf := if p = n then .ok D else .error p
def rRk (n : Nat) (ch : Nat → Nat) (p : Nat) (e o : Option Nat) (s : Nat) (T : List xT3) (f l : Nat) : Except Nat xDf := if hIs n ch p 33 = true then (if hIn n ch (p + 1) 48 57 = true then rEn n (p + 1 + 1) (e, o, s, T, f, l, ch (p + 1) - 48) else .error (p + 1)) else rEn n p (e, o, s, T, f, l, 0)
def rLa (n : Nat) (ch : Nat → Nat) (p : Nat) (e o : Option Nat) (s : Nat) (T : List xT3) (f : Nat) : Except Nat xDf := if hIs n ch p 45 = true then (if hIn n ch (p + 1) 48 57 = true then rRk n ch (rNs n ch 2 (ch (p + 1) - 48) (p + 1 + 1)).2 e o s T f (rNs n ch 2 (ch (p + 1) - 48) (p + 1 + 1)).1 else .error (p + 1)) else .error p
def rDy (n : Nat) (ch : Nat → Nat) (p : Nat) (e o : Option Nat) (s : Nat) (T : List xT3) : Except Nat xDf := if hIs n ch p 64 = true then (if hIn n ch (p + 1) 48 57 = true then rLa n ch (rNs n ch 2 (ch (p + 1) - 48) (p + 1 + 1)).2 e o s T (rNs n ch 2 (ch (p + 1) - 48) (p + 1 + 1)).1 else .error (p + 1)) else rRk n ch p e o s T 0 999
def rSc (n : Nat) (ch : Nat → Nat) (p : Nat) (e o : Option Nat) : Except Nat xDf := if hIn n ch p 48 57 = true then (match rTs n ch (p + 1) with
    | .ok (T, q) => rDy n ch q e o (ch p - 48) T
    | .error x => .error x) else .error p
/-- what's read of n chars -/
def rAll (n : Nat) (ch : Nat → Nat) : Except Nat xDf := match rHd n ch 0 with
  | .ok ((e, o), q) => rSc n ch q e o
  | .error x => .error x
/-- what the reader answers -/
def xRA (g : xG) (R D tl N : Nat) (X : Except Nat xDf) (rs : Option Value ⊕ Nat) (g' : xG) : Prop := match X with
  | .ok (e, o, s, T, f, l, k) => rs = .inl (some (.ref D)) ∧ ∃ ts arr, xDr g' D (adE g e) (ofV o) (nI s) (nI k) (nI f) (nI l) tl arr ts ∧ xTq g' ts T ∧ T.length ≤ 15 ∧ xFr o145 N g g'
  | .error e => xWro g o145 N e rs g'
theorem xRA.fr {g g1 : xG} {R D tl N N1 M : Nat} {X : Except Nat xDf} {rs : Option Value ⊕ Nat} {g' : xG} (h : xRA g1 R D tl N X rs g') (F : xFr o145 N1 g g1) (hN : N1 + N ≤ M) : xRA g R D tl M X rs g' := by
  unfold xRA at h ⊢
  split at h
  · obtain ⟨e, ts, arr, a1, a2, a3, a4⟩ := h
    refine ⟨e, ts, arr, ?_, a2, a3, (F.tr a4).sub (fun _ h => h) hN⟩
    have e9 : ∀ z, adE g1 z = adE g z := fun z => by
      unfold adE
      cases z with
      | none => rfl
      | some i => rw [F.e]
    rw [e9] at a1
    exact a1
  · exact (h.fr F).le hN
theorem m1_eq : ofV none = -1 := rfl

theorem all_end_ok {d : Nat} {g : xG} {R D tb p n : Nat} {ch : Nat → Nat} (hR : xRd g R D tb p n ch) {e o : Option Nat} {s k f l : Nat} {tl arr : Nat} {ts : List Nat} {T : List xT3} (hD : xDr g D (adE g e) (ofV o) (nI s) (nI k) (nI f) (nI l) tl arr ts) (hT : xTq g ts T) (hTl : T.length ≤ 15) (h : p = n) : XW M_X18_all (d + 12) 96 [(0, .ref R)] [] g (xRA g R D tl 20 (rEn n p (e, o, s, T, f, l, k))) := by
  have hR0 := hR
  have hD0 := hD
  obtain ⟨r1, r2, r3, r4, r5, hB, r7, r8⟩ := hR
  obtain ⟨d1, d2, d3, d4, d5, d6, d7, d8, d9, d10⟩ := hD
  have rl := hR0.lt
  have rn := hR0.own
  have dn : xown g D ≠ 0 := by rw [d2]; decide
  unfold rEn
  rw [if_pos h]
  refine xw_aload_n (pc := 96) dX18_all_96 0 rfl ?_
  refine xw_aload_n (pc := 97) dX18_all_97 0 rfl ?_
  refine xw_getNat (k := p) (pc := 98) fd_X18_22 dX18_all_98 (by first | assumption | (simp [-List.getD_eq_getElem?_getD, xE_setI, xsz_setI, xsl_setI, xtag_setI, xown_setI, xlen_setI, xE_setR, xsz_setR, xsl_setR, xtag_setR, xown_setR, xlen_setR, xE_setW, xsz_setW, xsl_setW, xtag_setW, xown_setW, xlen_setW, xi_setR, xi_setW, xr_setI, xr_setW, xww_setI, xww_setR, xi_setI, xr_setR, xww_setW, xE_new, xsz_new, xsl_new, r1, r3, r4, r5, rn, d1, dn, xsub]; done) | (simp [-List.getD_eq_getElem?_getD, xE_setI, xsz_setI, xsl_setI, xtag_setI, xown_setI, xlen_setI, xE_setR, xsz_setR, xsl_setR, xtag_setR, xown_setR, xlen_setR, xE_setW, xsz_setW, xsl_setW, xtag_setW, xown_setW, xlen_setW, xi_setR, xi_setW, xr_setI, xr_setW, xww_setI, xww_setR, xi_setI, xr_setR, xww_setW, xE_new, xsz_new, xsl_new, r1, r3, r4, r5, rn, d1, dn] <;> rfl)) (by simp [-List.getD_eq_getElem?_getD, xE_setI, xsz_setI, xsl_setI, xtag_setI, xown_setI, xlen_setI, xE_setR, xsz_setR, xsl_setR, xtag_setR, xown_setR, xlen_setR, xE_setW, xsz_setW, xsl_setW, xtag_setW, xown_setW, xlen_setW, xi_setR, xi_setW, xr_setI, xr_setW, xww_setI, xww_setR, xi_setI, xr_setR, xww_setW, xE_new, xsz_new, xsl_new, r1, r3, r4, r5, rn, d1, dn]) ?_
  refine xw_aload_n (pc := 101) dX18_all_101 0 rfl ?_
  refine xw_getS (b := tb) (pc := 102) fd_X18_18 dX18_all_102 (by first | assumption | (simp [-List.getD_eq_getElem?_getD, xE_setI, xsz_setI, xsl_setI, xtag_setI, xown_setI, xlen_setI, xE_setR, xsz_setR, xsl_setR, xtag_setR, xown_setR, xlen_setR, xE_setW, xsz_setW, xsl_setW, xtag_setW, xown_setW, xlen_setW, xi_setR, xi_setW, xr_setI, xr_setW, xww_setI, xww_setR, xi_setI, xr_setR, xww_setW, xE_new, xsz_new, xsl_new, r1, r3, r4, r5, rn, d1, dn, xsub]; done) | (simp [-List.getD_eq_getElem?_getD, xE_setI, xsz_setI, xsl_setI, xtag_setI, xown_setI, xlen_setI, xE_setR, xsz_setR, xsl_setR, xtag_setR, xown_setR, xlen_setR, xE_setW, xsz_setW, xsl_setW, xtag_setW, xown_setW, xlen_setW, xi_setR, xi_setW, xr_setI, xr_setW, xww_setI, xww_setR, xi_setI, xr_setR, xww_setW, xE_new, xsz_new, xsl_new, r1, r3, r4, r5, rn, d1, dn] <;> rfl)) (by simp [-List.getD_eq_getElem?_getD, xE_setI, xsz_setI, xsl_setI, xtag_setI, xown_setI, xlen_setI, xE_setR, xsz_setR, xsl_setR, xtag_setR, xown_setR, xlen_setR, xE_setW, xsz_setW, xsl_setW, xtag_setW, xown_setW, xlen_setW, xi_setR, xi_setW, xr_setI, xr_setW, xww_setI, xww_setR, xi_setI, xr_setR, xww_setW, xE_new, xsz_new, xsl_new, r1, r3, r4, r5, rn, d1, dn]) ?_
  refine xw_call5V (pc := 105) (xr_F (x := ⟨"java/lang/CharSequence", "length", "()I"⟩) (as := []) ok_J8_length rfl (by decide) q1913 (by rw [hB.tag]; exact List.mem_of_getElem? (i := 0) rfl) q421 (by rw [hB.tag]; exact q1921) ⟨by decide, by decide, by decide +kernel⟩ hB.tag dX18_all_105 rfl rfl (Nat.le_of_ble_eq_true rfl)) (SP_J8_len hB) ?_
  refine xw_icmp_ne (pc := 110) 117 dX18_all_110 rfl (fun hb110 => ?_) (fun hb110 => ?_)
  · exfalso
    replace hb110 : ¬ (p = n) := mt (nI_eq (a := p) (b := n) (by omega) (by omega)).mpr hb110
    omega
  replace hb110 : p = n := (nI_eq (a := p) (b := n) (by omega) (by omega)).mp hb110
  refine xw_iconst (v := nI 1) (pc := 113) dX18_all_113 rfl ?_
  refine xw_goto (pc := 114) 118 dX18_all_114 rfl ?_
  refine xw_callU (pc := 118) (xr_V (as := [_]) ok_X18_needs rfl (by decide) q1968 q1970 qs38 (by first | (rw [r1]; rfl) | (rw [y1]; rfl) | (rw [z1]; rfl)) (by first | (rw [r1]; rfl) | (rw [y1]; rfl) | (rw [z1]; rfl)) dX18_all_118 rfl rfl (Nat.le_of_ble_eq_true rfl)) (SP_X18_needs_T) ?_
  refine xw_aload_n (pc := 121) dX18_all_121 0 rfl ?_
  refine xw_getS (b := D) (pc := 122) fd_X18_12 dX18_all_122 (by first | assumption | (simp [-List.getD_eq_getElem?_getD, xE_setI, xsz_setI, xsl_setI, xtag_setI, xown_setI, xlen_setI, xE_setR, xsz_setR, xsl_setR, xtag_setR, xown_setR, xlen_setR, xE_setW, xsz_setW, xsl_setW, xtag_setW, xown_setW, xlen_setW, xi_setR, xi_setW, xr_setI, xr_setW, xww_setI, xww_setR, xi_setI, xr_setR, xww_setW, xE_new, xsz_new, xsl_new, r1, r3, r4, r5, rn, d1, dn, xsub]; done) | (simp [-List.getD_eq_getElem?_getD, xE_setI, xsz_setI, xsl_setI, xtag_setI, xown_setI, xlen_setI, xE_setR, xsz_setR, xsl_setR, xtag_setR, xown_setR, xlen_setR, xE_setW, xsz_setW, xsl_setW, xtag_setW, xown_setW, xlen_setW, xi_setR, xi_setW, xr_setI, xr_setW, xww_setI, xww_setR, xi_setI, xr_setR, xww_setW, xE_new, xsz_new, xsl_new, r1, r3, r4, r5, rn, d1, dn] <;> rfl)) (by simp [-List.getD_eq_getElem?_getD, xE_setI, xsz_setI, xsl_setI, xtag_setI, xown_setI, xlen_setI, xE_setR, xsz_setR, xsl_setR, xtag_setR, xown_setR, xlen_setR, xE_setW, xsz_setW, xsl_setW, xtag_setW, xown_setW, xlen_setW, xi_setR, xi_setW, xr_setI, xr_setW, xww_setI, xww_setR, xi_setI, xr_setR, xww_setW, xE_new, xsz_new, xsl_new, r1, r3, r4, r5, rn, d1, dn]) ?_
  refine xw_aret (pc := 125) (.object "PolicyNotation$Draft") dX18_all_125 rfl ?_
  exact ⟨rfl, ts, arr, hD0, hT, hTl, xFr.rf⟩
theorem all_end_F {d : Nat} {g : xG} {R D tb p n : Nat} {ch : Nat → Nat} (hR : xRd g R D tb p n ch) {e o : Option Nat} {s k f l : Nat} {tl arr : Nat} {ts : List Nat} {T : List xT3} (hD : xDr g D (adE g e) (ofV o) (nI s) (nI k) (nI f) (nI l) tl arr ts) (hT : xTq g ts T) (hTl : T.length ≤ 15) (h : ¬ p = n) : XW M_X18_all (d + 12) 96 [(0, .ref R)] [] g (xRA g R D tl 20 (rEn n p (e, o, s, T, f, l, k))) := by
  have hR0 := hR
  have hD0 := hD
  obtain ⟨r1, r2, r3, r4, r5, hB, r7, r8⟩ := hR
  obtain ⟨d1, d2, d3, d4, d5, d6, d7, d8, d9, d10⟩ := hD
  have rl := hR0.lt
  have rn := hR0.own
  have dn : xown g D ≠ 0 := by rw [d2]; decide
  unfold rEn
  rw [if_neg h]
  refine xw_aload_n (pc := 96) dX18_all_96 0 rfl ?_
  refine xw_aload_n (pc := 97) dX18_all_97 0 rfl ?_
  refine xw_getNat (k := p) (pc := 98) fd_X18_22 dX18_all_98 (by first | assumption | (simp [-List.getD_eq_getElem?_getD, xE_setI, xsz_setI, xsl_setI, xtag_setI, xown_setI, xlen_setI, xE_setR, xsz_setR, xsl_setR, xtag_setR, xown_setR, xlen_setR, xE_setW, xsz_setW, xsl_setW, xtag_setW, xown_setW, xlen_setW, xi_setR, xi_setW, xr_setI, xr_setW, xww_setI, xww_setR, xi_setI, xr_setR, xww_setW, xE_new, xsz_new, xsl_new, r1, r3, r4, r5, rn, d1, dn, xsub]; done) | (simp [-List.getD_eq_getElem?_getD, xE_setI, xsz_setI, xsl_setI, xtag_setI, xown_setI, xlen_setI, xE_setR, xsz_setR, xsl_setR, xtag_setR, xown_setR, xlen_setR, xE_setW, xsz_setW, xsl_setW, xtag_setW, xown_setW, xlen_setW, xi_setR, xi_setW, xr_setI, xr_setW, xww_setI, xww_setR, xi_setI, xr_setR, xww_setW, xE_new, xsz_new, xsl_new, r1, r3, r4, r5, rn, d1, dn] <;> rfl)) (by simp [-List.getD_eq_getElem?_getD, xE_setI, xsz_setI, xsl_setI, xtag_setI, xown_setI, xlen_setI, xE_setR, xsz_setR, xsl_setR, xtag_setR, xown_setR, xlen_setR, xE_setW, xsz_setW, xsl_setW, xtag_setW, xown_setW, xlen_setW, xi_setR, xi_setW, xr_setI, xr_setW, xww_setI, xww_setR, xi_setI, xr_setR, xww_setW, xE_new, xsz_new, xsl_new, r1, r3, r4, r5, rn, d1, dn]) ?_
  refine xw_aload_n (pc := 101) dX18_all_101 0 rfl ?_
  refine xw_getS (b := tb) (pc := 102) fd_X18_18 dX18_all_102 (by first | assumption | (simp [-List.getD_eq_getElem?_getD, xE_setI, xsz_setI, xsl_setI, xtag_setI, xown_setI, xlen_setI, xE_setR, xsz_setR, xsl_setR, xtag_setR, xown_setR, xlen_setR, xE_setW, xsz_setW, xsl_setW, xtag_setW, xown_setW, xlen_setW, xi_setR, xi_setW, xr_setI, xr_setW, xww_setI, xww_setR, xi_setI, xr_setR, xww_setW, xE_new, xsz_new, xsl_new, r1, r3, r4, r5, rn, d1, dn, xsub]; done) | (simp [-List.getD_eq_getElem?_getD, xE_setI, xsz_setI, xsl_setI, xtag_setI, xown_setI, xlen_setI, xE_setR, xsz_setR, xsl_setR, xtag_setR, xown_setR, xlen_setR, xE_setW, xsz_setW, xsl_setW, xtag_setW, xown_setW, xlen_setW, xi_setR, xi_setW, xr_setI, xr_setW, xww_setI, xww_setR, xi_setI, xr_setR, xww_setW, xE_new, xsz_new, xsl_new, r1, r3, r4, r5, rn, d1, dn] <;> rfl)) (by simp [-List.getD_eq_getElem?_getD, xE_setI, xsz_setI, xsl_setI, xtag_setI, xown_setI, xlen_setI, xE_setR, xsz_setR, xsl_setR, xtag_setR, xown_setR, xlen_setR, xE_setW, xsz_setW, xsl_setW, xtag_setW, xown_setW, xlen_setW, xi_setR, xi_setW, xr_setI, xr_setW, xww_setI, xww_setR, xi_setI, xr_setR, xww_setW, xE_new, xsz_new, xsl_new, r1, r3, r4, r5, rn, d1, dn]) ?_
  refine xw_call5V (pc := 105) (xr_F (x := ⟨"java/lang/CharSequence", "length", "()I"⟩) (as := []) ok_J8_length rfl (by decide) q1913 (by rw [hB.tag]; exact List.mem_of_getElem? (i := 0) rfl) q421 (by rw [hB.tag]; exact q1921) ⟨by decide, by decide, by decide +kernel⟩ hB.tag dX18_all_105 rfl rfl (Nat.le_of_ble_eq_true rfl)) (SP_J8_len hB) ?_
  refine xw_icmp_ne (pc := 110) 117 dX18_all_110 rfl (fun hb110 => ?_) (fun hb110 => ?_)
  rotate_left
  · exfalso
    replace hb110 : p = n := (nI_eq (a := p) (b := n) (by omega) (by omega)).mp hb110
    omega
  replace hb110 : ¬ (p = n) := mt (nI_eq (a := p) (b := n) (by omega) (by omega)).mpr hb110
  refine xw_iconst (v := nI 0) (pc := 117) dX18_all_117 rfl ?_
  refine xw_callX (pc := 118) (xr_V (as := [_]) ok_X18_needs rfl (by decide) q1968 q1970 qs38 (by first | (rw [r1]; rfl) | (rw [y1]; rfl) | (rw [z1]; rfl)) (by first | (rw [r1]; rfl) | (rw [y1]; rfl) | (rw [z1]; rfl)) dX18_all_118 rfl rfl (Nat.le_of_ble_eq_true rfl)) (SP_X18_needs_F hR0) ?_
  refine xx_out0 rfl (by rw [xWr_tag]; decide) (by rw [xWr_tag]; decide) (by rw [xWr_own]; decide) ?_
  exact ⟨xsz _, rfl, xWr_tag, xWr_own, (xFr.rf (O := o145) (n := 0) (g := g)).le, xWr_at, (xWr_fr ((xFr.rf (O := o145) (n := 0) (g := g)))).sub (fun _ h => h) (by omega)⟩
theorem all_end {d : Nat} {g : xG} {R D tb p n : Nat} {ch : Nat → Nat} (hR : xRd g R D tb p n ch) {e o : Option Nat} {s k f l : Nat} {tl arr : Nat} {ts : List Nat} {T : List xT3} (hD : xDr g D (adE g e) (ofV o) (nI s) (nI k) (nI f) (nI l) tl arr ts) (hT : xTq g ts T) (hTl : T.length ≤ 15) : XW M_X18_all (d + 12) 96 [(0, .ref R)] [] g (xRA g R D tl 20 (rEn n p (e, o, s, T, f, l, k))) := by
  by_cases h : p = n
  · exact all_end_ok hR hD hT hTl h
  · exact all_end_F hR hD hT hTl h
theorem all_rk_0 {d : Nat} {g : xG} {R D tb p n : Nat} {ch : Nat → Nat} (hR : xRd g R D tb p n ch) {e o : Option Nat} {s f l : Nat} {tl arr : Nat} {ts : List Nat} {T : List xT3} (hD : xDr g D (adE g e) (ofV o) (nI s) (nI 0) (nI f) (nI l) tl arr ts) (hT : xTq g ts T) (hTl : T.length ≤ 15) (h : hIs n ch p 33 = false) : XW M_X18_all (d + 12) 66 [(0, .ref R)] [] g (xRA g R D tl 40 (rRk n ch p e o s T f l)) := by
  have hR0 := hR
  have hD0 := hD
  obtain ⟨r1, r2, r3, r4, r5, hB, r7, r8⟩ := hR
  obtain ⟨d1, d2, d3, d4, d5, d6, d7, d8, d9, d10⟩ := hD
  have rl := hR0.lt
  have rn := hR0.own
  have dn : xown g D ≠ 0 := by rw [d2]; decide
  unfold rRk
  rw [if_neg (Bool.eq_false_iff.mp h)]
  refine xw_aload_n (pc := 66) dX18_all_66 0 rfl ?_
  refine xw_bipush (v := nI 33) (pc := 67) dX18_all_67 (by decide +kernel) ?_
  refine xw_callV (pc := 69) (xr_V (as := [_]) ok_X18_isHere rfl (by decide) q1904 q1906 qs33 (by first | (rw [r1]; rfl) | (rw [y1]; rfl) | (rw [z1]; rfl)) (by first | (rw [r1]; rfl) | (rw [y1]; rfl) | (rw [z1]; rfl)) dX18_all_69 rfl rfl (Nat.le_of_ble_eq_true rfl)) ((show XM M_X18_isHere (d + 11) [.ref R, .int (nI 33)] g (xOne (some (.int (bI false))) g) from h ▸ SP_X18_isHere (d := d + 5) hR0 (by decide))) ?_
  refine xw_if_eq (pc := 72) 96 dX18_all_72 rfl (fun _ => ?_) (fun hb => absurd hb (by decide))
  exact (all_end hR0 hD0 hT hTl).mono (fun _ _ h9 _ => h9.fr (xFr.rf (O := o145) (n := 0) (g := g)) (by omega))
theorem all_rk_1 {d : Nat} {g : xG} {R D tb p n : Nat} {ch : Nat → Nat} (hR : xRd g R D tb p n ch) {e o : Option Nat} {s f l : Nat} {tl arr : Nat} {ts : List Nat} {T : List xT3} (hD : xDr g D (adE g e) (ofV o) (nI s) (nI 0) (nI f) (nI l) tl arr ts) (hT : xTq g ts T) (hTl : T.length ≤ 15) (h : hIs n ch p 33 = true) (hi : hIn n ch (p + 1) 48 57 = false) : XW M_X18_all (d + 12) 66 [(0, .ref R)] [] g (xRA g R D tl 40 (rRk n ch p e o s T f l)) := by
  have hR0 := hR
  have hD0 := hD
  obtain ⟨r1, r2, r3, r4, r5, hB, r7, r8⟩ := hR
  obtain ⟨d1, d2, d3, d4, d5, d6, d7, d8, d9, d10⟩ := hD
  have rl := hR0.lt
  have rn := hR0.own
  have dn : xown g D ≠ 0 := by rw [d2]; decide
  have hpn := (of_decide_eq_true h).1
  have F1 : xFr (oEq 14) 0 g (xsetI g R 2 (nI (p + 1))) := xFr.rf.si (Or.inr r2)
  have hR1 := hR0.to (q := p + 1) (by omega)
  have y1 : xtag (xsetI g R 2 (nI (p + 1))) R = 15 := by rw [xtag_setI]; exact r1
  have hD1 := hD0.at_ (v := nI (p + 1)) r1 r2
  unfold rRk
  rw [if_pos h, if_neg (Bool.eq_false_iff.mp hi)]
  refine xw_aload_n (pc := 66) dX18_all_66 0 rfl ?_
  refine xw_bipush (v := nI 33) (pc := 67) dX18_all_67 (by decide +kernel) ?_
  refine xw_callV (pc := 69) (xr_V (as := [_]) ok_X18_isHere rfl (by decide) q1904 q1906 qs33 (by first | (rw [r1]; rfl) | (rw [y1]; rfl) | (rw [z1]; rfl)) (by first | (rw [r1]; rfl) | (rw [y1]; rfl) | (rw [z1]; rfl)) dX18_all_69 rfl rfl (Nat.le_of_ble_eq_true rfl)) ((show XM M_X18_isHere (d + 11) [.ref R, .int (nI 33)] g (xOne (some (.int (bI true))) g) from h ▸ SP_X18_isHere (d := d + 5) hR0 (by decide))) ?_
  refine xw_if_eq (pc := 72) 96 dX18_all_72 rfl (fun hb => absurd hb (by decide)) (fun _ => ?_)
  refine xw_aload_n (pc := 75) dX18_all_75 0 rfl ?_
  refine xw_dup (pc := 76) dX18_all_76 rfl ?_
  refine xw_getNat (k := p) (pc := 77) fd_X18_22 dX18_all_77 (by first | assumption | (simp [-List.getD_eq_getElem?_getD, xE_setI, xsz_setI, xsl_setI, xtag_setI, xown_setI, xlen_setI, xE_setR, xsz_setR, xsl_setR, xtag_setR, xown_setR, xlen_setR, xE_setW, xsz_setW, xsl_setW, xtag_setW, xown_setW, xlen_setW, xi_setR, xi_setW, xr_setI, xr_setW, xww_setI, xww_setR, xi_setI, xr_setR, xww_setW, xE_new, xsz_new, xsl_new, r1, r3, r4, r5, rn, d1, dn, xsub]; done) | (simp [-List.getD_eq_getElem?_getD, xE_setI, xsz_setI, xsl_setI, xtag_setI, xown_setI, xlen_setI, xE_setR, xsz_setR, xsl_setR, xtag_setR, xown_setR, xlen_setR, xE_setW, xsz_setW, xsl_setW, xtag_setW, xown_setW, xlen_setW, xi_setR, xi_setW, xr_setI, xr_setW, xww_setI, xww_setR, xi_setI, xr_setR, xww_setW, xE_new, xsz_new, xsl_new, r1, r3, r4, r5, rn, d1, dn] <;> rfl)) (by simp [-List.getD_eq_getElem?_getD, xE_setI, xsz_setI, xsl_setI, xtag_setI, xown_setI, xlen_setI, xE_setR, xsz_setR, xsl_setR, xtag_setR, xown_setR, xlen_setR, xE_setW, xsz_setW, xsl_setW, xtag_setW, xown_setW, xlen_setW, xi_setR, xi_setW, xr_setI, xr_setW, xww_setI, xww_setR, xi_setI, xr_setR, xww_setW, xE_new, xsz_new, xsl_new, r1, r3, r4, r5, rn, d1, dn]) ?_
  refine xw_iconst (v := nI 1) (pc := 80) dX18_all_80 rfl ?_
  refine xn_iadd (pc := 81) dX18_all_81 ?_
  refine xw_putI (pc := 82) fd_X18_22 (xfin_of (by decide) (by decide +kernel)) dX18_all_82 (by first | assumption | (simp [-List.getD_eq_getElem?_getD, xE_setI, xsz_setI, xsl_setI, xtag_setI, xown_setI, xlen_setI, xE_setR, xsz_setR, xsl_setR, xtag_setR, xown_setR, xlen_setR, xE_setW, xsz_setW, xsl_setW, xtag_setW, xown_setW, xlen_setW, xi_setR, xi_setW, xr_setI, xr_setW, xww_setI, xww_setR, xi_setI, xr_setR, xww_setW, xE_new, xsz_new, xsl_new, r1, r3, r4, r5, rn, d1, dn, xsub]; done) | (simp [-List.getD_eq_getElem?_getD, xE_setI, xsz_setI, xsl_setI, xtag_setI, xown_setI, xlen_setI, xE_setR, xsz_setR, xsl_setR, xtag_setR, xown_setR, xlen_setR, xE_setW, xsz_setW, xsl_setW, xtag_setW, xown_setW, xlen_setW, xi_setR, xi_setW, xr_setI, xr_setW, xww_setI, xww_setR, xi_setI, xr_setR, xww_setW, xE_new, xsz_new, xsl_new, r1, r3, r4, r5, rn, d1, dn] <;> rfl)) (by first | assumption | (simp [-List.getD_eq_getElem?_getD, xE_setI, xsz_setI, xsl_setI, xtag_setI, xown_setI, xlen_setI, xE_setR, xsz_setR, xsl_setR, xtag_setR, xown_setR, xlen_setR, xE_setW, xsz_setW, xsl_setW, xtag_setW, xown_setW, xlen_setW, xi_setR, xi_setW, xr_setI, xr_setW, xww_setI, xww_setR, xi_setI, xr_setR, xww_setW, xE_new, xsz_new, xsl_new, r1, r3, r4, r5, rn, d1, dn]; done) | (simp [-List.getD_eq_getElem?_getD, xE_setI, xsz_setI, xsl_setI, xtag_setI, xown_setI, xlen_setI, xE_setR, xsz_setR, xsl_setR, xtag_setR, xown_setR, xlen_setR, xE_setW, xsz_setW, xsl_setW, xtag_setW, xown_setW, xlen_setW, xi_setR, xi_setW, xr_setI, xr_setW, xww_setI, xww_setR, xi_setI, xr_setR, xww_setW, xE_new, xsz_new, xsl_new, r1, r3, r4, r5, rn, d1, dn]; assumption)) ?_
  refine xw_aload_n (pc := 85) dX18_all_85 0 rfl ?_
  refine xw_getS (b := D) (pc := 86) fd_X18_12 dX18_all_86 (by first | assumption | (simp [-List.getD_eq_getElem?_getD, xE_setI, xsz_setI, xsl_setI, xtag_setI, xown_setI, xlen_setI, xE_setR, xsz_setR, xsl_setR, xtag_setR, xown_setR, xlen_setR, xE_setW, xsz_setW, xsl_setW, xtag_setW, xown_setW, xlen_setW, xi_setR, xi_setW, xr_setI, xr_setW, xww_setI, xww_setR, xi_setI, xr_setR, xww_setW, xE_new, xsz_new, xsl_new, r1, r3, r4, r5, rn, d1, dn, xsub]; done) | (simp [-List.getD_eq_getElem?_getD, xE_setI, xsz_setI, xsl_setI, xtag_setI, xown_setI, xlen_setI, xE_setR, xsz_setR, xsl_setR, xtag_setR, xown_setR, xlen_setR, xE_setW, xsz_setW, xsl_setW, xtag_setW, xown_setW, xlen_setW, xi_setR, xi_setW, xr_setI, xr_setW, xww_setI, xww_setR, xi_setI, xr_setR, xww_setW, xE_new, xsz_new, xsl_new, r1, r3, r4, r5, rn, d1, dn] <;> rfl)) (by simp [-List.getD_eq_getElem?_getD, xE_setI, xsz_setI, xsl_setI, xtag_setI, xown_setI, xlen_setI, xE_setR, xsz_setR, xsl_setR, xtag_setR, xown_setR, xlen_setR, xE_setW, xsz_setW, xsl_setW, xtag_setW, xown_setW, xlen_setW, xi_setR, xi_setW, xr_setI, xr_setW, xww_setI, xww_setR, xi_setI, xr_setR, xww_setW, xE_new, xsz_new, xsl_new, r1, r3, r4, r5, rn, d1, dn]) ?_
  refine xw_aload_n (pc := 89) dX18_all_89 0 rfl ?_
  refine xw_callX (pc := 90) (xr_V (as := []) ok_X18_digit rfl (by decide) q1959 q1961 qs36 (by first | (rw [r1]; rfl) | (rw [y1]; rfl) | (rw [z1]; rfl)) (by first | (rw [r1]; rfl) | (rw [y1]; rfl) | (rw [z1]; rfl)) dX18_all_90 rfl rfl (Nat.le_of_ble_eq_true rfl)) (SP_X18_digitF hR1 hi) ?_
  refine xx_out0 rfl (by rw [xWr_tag]; decide) (by rw [xWr_tag]; decide) (by rw [xWr_own]; decide) ?_
  exact ⟨xsz _, rfl, xWr_tag, xWr_own, F1.b14.le, xWr_at, (xWr_fr (F1.b14)).sub (fun _ h => h) (by omega)⟩
theorem all_rk_2 {d : Nat} {g : xG} {R D tb p n : Nat} {ch : Nat → Nat} (hR : xRd g R D tb p n ch) {e o : Option Nat} {s f l : Nat} {tl arr : Nat} {ts : List Nat} {T : List xT3} (hD : xDr g D (adE g e) (ofV o) (nI s) (nI 0) (nI f) (nI l) tl arr ts) (hT : xTq g ts T) (hTl : T.length ≤ 15) (h : hIs n ch p 33 = true) (hi : hIn n ch (p + 1) 48 57 = true) : XW M_X18_all (d + 12) 66 [(0, .ref R)] [] g (xRA g R D tl 40 (rRk n ch p e o s T f l)) := by
  have hR0 := hR
  have hD0 := hD
  obtain ⟨r1, r2, r3, r4, r5, hB, r7, r8⟩ := hR
  obtain ⟨d1, d2, d3, d4, d5, d6, d7, d8, d9, d10⟩ := hD
  have rl := hR0.lt
  have rn := hR0.own
  have dn : xown g D ≠ 0 := by rw [d2]; decide
  have hpn := (of_decide_eq_true h).1
  have F1 : xFr (oEq 14) 0 g (xsetI g R 2 (nI (p + 1))) := xFr.rf.si (Or.inr r2)
  have hR1 := hR0.to (q := p + 1) (by omega)
  have y1 : xtag (xsetI g R 2 (nI (p + 1))) R = 15 := by rw [xtag_setI]; exact r1
  have hD1 := hD0.at_ (v := nI (p + 1)) r1 r2
  unfold rRk
  rw [if_pos h, if_pos hi]
  have hpi := (of_decide_eq_true hi).1
  have hRq := hR0.to (q := (p + 1 + 1)) (by omega)
  have Fq : xFr (oEq 14) 0 g (xsetI g R 2 (nI (p + 1 + 1))) := xFr.rf.si (Or.inr r2)
  have hDq := (hD0.at_ (v := nI (p + 1 + 1)) r1 r2).seti (j := 3) (v := nI (ch (p + 1) - 48))
  have Fd : xFr (oEq 14) 0 g (xsetI (xsetI g R 2 (nI (p + 1 + 1))) D 3 (nI (ch (p + 1) - 48))) := Fq.si (Or.inr (by rw [xown_setI]; exact d2))
  have hRd := hRq.set (a := D) (j := 3) (v := nI (ch (p + 1) - 48)) (by rw [xtag_setI]; exact d1) (by rw [xown_setI]; exact d2)
  have z1 : xtag (xsetI (xsetI g R 2 (nI (p + 1 + 1))) D 3 (nI (ch (p + 1) - 48))) R = 15 := hRd.1
  have hTd := hT.fr Fd (by unfold oEq; omega)
  have SD : XM M_X18_digit (d + 11) [.ref R] (xsetI g R 2 (nI (p + 1))) (xOne (some (.int (nI (ch (p + 1) - 48)))) (xsetI g R 2 (nI (p + 1 + 1)))) := by
    have h9 := SP_X18_digit (d := d + 4) hR1 hi
    rw [xsetI_ov rl] at h9
    exact h9
  refine xw_aload_n (pc := 66) dX18_all_66 0 rfl ?_
  refine xw_bipush (v := nI 33) (pc := 67) dX18_all_67 (by decide +kernel) ?_
  refine xw_callV (pc := 69) (xr_V (as := [_]) ok_X18_isHere rfl (by decide) q1904 q1906 qs33 (by first | (rw [r1]; rfl) | (rw [y1]; rfl) | (rw [z1]; rfl)) (by first | (rw [r1]; rfl) | (rw [y1]; rfl) | (rw [z1]; rfl)) dX18_all_69 rfl rfl (Nat.le_of_ble_eq_true rfl)) ((show XM M_X18_isHere (d + 11) [.ref R, .int (nI 33)] g (xOne (some (.int (bI true))) g) from h ▸ SP_X18_isHere (d := d + 5) hR0 (by decide))) ?_
  refine xw_if_eq (pc := 72) 96 dX18_all_72 rfl (fun hb => absurd hb (by decide)) (fun _ => ?_)
  refine xw_aload_n (pc := 75) dX18_all_75 0 rfl ?_
  refine xw_dup (pc := 76) dX18_all_76 rfl ?_
  refine xw_getNat (k := p) (pc := 77) fd_X18_22 dX18_all_77 (by first | assumption | (simp [-List.getD_eq_getElem?_getD, xE_setI, xsz_setI, xsl_setI, xtag_setI, xown_setI, xlen_setI, xE_setR, xsz_setR, xsl_setR, xtag_setR, xown_setR, xlen_setR, xE_setW, xsz_setW, xsl_setW, xtag_setW, xown_setW, xlen_setW, xi_setR, xi_setW, xr_setI, xr_setW, xww_setI, xww_setR, xi_setI, xr_setR, xww_setW, xE_new, xsz_new, xsl_new, r1, r3, r4, r5, rn, d1, dn, xsub]; done) | (simp [-List.getD_eq_getElem?_getD, xE_setI, xsz_setI, xsl_setI, xtag_setI, xown_setI, xlen_setI, xE_setR, xsz_setR, xsl_setR, xtag_setR, xown_setR, xlen_setR, xE_setW, xsz_setW, xsl_setW, xtag_setW, xown_setW, xlen_setW, xi_setR, xi_setW, xr_setI, xr_setW, xww_setI, xww_setR, xi_setI, xr_setR, xww_setW, xE_new, xsz_new, xsl_new, r1, r3, r4, r5, rn, d1, dn] <;> rfl)) (by simp [-List.getD_eq_getElem?_getD, xE_setI, xsz_setI, xsl_setI, xtag_setI, xown_setI, xlen_setI, xE_setR, xsz_setR, xsl_setR, xtag_setR, xown_setR, xlen_setR, xE_setW, xsz_setW, xsl_setW, xtag_setW, xown_setW, xlen_setW, xi_setR, xi_setW, xr_setI, xr_setW, xww_setI, xww_setR, xi_setI, xr_setR, xww_setW, xE_new, xsz_new, xsl_new, r1, r3, r4, r5, rn, d1, dn]) ?_
  refine xw_iconst (v := nI 1) (pc := 80) dX18_all_80 rfl ?_
  refine xn_iadd (pc := 81) dX18_all_81 ?_
  refine xw_putI (pc := 82) fd_X18_22 (xfin_of (by decide) (by decide +kernel)) dX18_all_82 (by first | assumption | (simp [-List.getD_eq_getElem?_getD, xE_setI, xsz_setI, xsl_setI, xtag_setI, xown_setI, xlen_setI, xE_setR, xsz_setR, xsl_setR, xtag_setR, xown_setR, xlen_setR, xE_setW, xsz_setW, xsl_setW, xtag_setW, xown_setW, xlen_setW, xi_setR, xi_setW, xr_setI, xr_setW, xww_setI, xww_setR, xi_setI, xr_setR, xww_setW, xE_new, xsz_new, xsl_new, r1, r3, r4, r5, rn, d1, dn, xsub]; done) | (simp [-List.getD_eq_getElem?_getD, xE_setI, xsz_setI, xsl_setI, xtag_setI, xown_setI, xlen_setI, xE_setR, xsz_setR, xsl_setR, xtag_setR, xown_setR, xlen_setR, xE_setW, xsz_setW, xsl_setW, xtag_setW, xown_setW, xlen_setW, xi_setR, xi_setW, xr_setI, xr_setW, xww_setI, xww_setR, xi_setI, xr_setR, xww_setW, xE_new, xsz_new, xsl_new, r1, r3, r4, r5, rn, d1, dn] <;> rfl)) (by first | assumption | (simp [-List.getD_eq_getElem?_getD, xE_setI, xsz_setI, xsl_setI, xtag_setI, xown_setI, xlen_setI, xE_setR, xsz_setR, xsl_setR, xtag_setR, xown_setR, xlen_setR, xE_setW, xsz_setW, xsl_setW, xtag_setW, xown_setW, xlen_setW, xi_setR, xi_setW, xr_setI, xr_setW, xww_setI, xww_setR, xi_setI, xr_setR, xww_setW, xE_new, xsz_new, xsl_new, r1, r3, r4, r5, rn, d1, dn]; done) | (simp [-List.getD_eq_getElem?_getD, xE_setI, xsz_setI, xsl_setI, xtag_setI, xown_setI, xlen_setI, xE_setR, xsz_setR, xsl_setR, xtag_setR, xown_setR, xlen_setR, xE_setW, xsz_setW, xsl_setW, xtag_setW, xown_setW, xlen_setW, xi_setR, xi_setW, xr_setI, xr_setW, xww_setI, xww_setR, xi_setI, xr_setR, xww_setW, xE_new, xsz_new, xsl_new, r1, r3, r4, r5, rn, d1, dn]; assumption)) ?_
  refine xw_aload_n (pc := 85) dX18_all_85 0 rfl ?_
  refine xw_getS (b := D) (pc := 86) fd_X18_12 dX18_all_86 (by first | assumption | (simp [-List.getD_eq_getElem?_getD, xE_setI, xsz_setI, xsl_setI, xtag_setI, xown_setI, xlen_setI, xE_setR, xsz_setR, xsl_setR, xtag_setR, xown_setR, xlen_setR, xE_setW, xsz_setW, xsl_setW, xtag_setW, xown_setW, xlen_setW, xi_setR, xi_setW, xr_setI, xr_setW, xww_setI, xww_setR, xi_setI, xr_setR, xww_setW, xE_new, xsz_new, xsl_new, r1, r3, r4, r5, rn, d1, dn, xsub]; done) | (simp [-List.getD_eq_getElem?_getD, xE_setI, xsz_setI, xsl_setI, xtag_setI, xown_setI, xlen_setI, xE_setR, xsz_setR, xsl_setR, xtag_setR, xown_setR, xlen_setR, xE_setW, xsz_setW, xsl_setW, xtag_setW, xown_setW, xlen_setW, xi_setR, xi_setW, xr_setI, xr_setW, xww_setI, xww_setR, xi_setI, xr_setR, xww_setW, xE_new, xsz_new, xsl_new, r1, r3, r4, r5, rn, d1, dn] <;> rfl)) (by simp [-List.getD_eq_getElem?_getD, xE_setI, xsz_setI, xsl_setI, xtag_setI, xown_setI, xlen_setI, xE_setR, xsz_setR, xsl_setR, xtag_setR, xown_setR, xlen_setR, xE_setW, xsz_setW, xsl_setW, xtag_setW, xown_setW, xlen_setW, xi_setR, xi_setW, xr_setI, xr_setW, xww_setI, xww_setR, xi_setI, xr_setR, xww_setW, xE_new, xsz_new, xsl_new, r1, r3, r4, r5, rn, d1, dn]) ?_
  refine xw_aload_n (pc := 89) dX18_all_89 0 rfl ?_
  refine xw_callV (pc := 90) (xr_V (as := []) ok_X18_digit rfl (by decide) q1959 q1961 qs36 (by first | (rw [r1]; rfl) | (rw [y1]; rfl) | (rw [z1]; rfl)) (by first | (rw [r1]; rfl) | (rw [y1]; rfl) | (rw [z1]; rfl)) dX18_all_90 rfl rfl (Nat.le_of_ble_eq_true rfl)) (SD) ?_
  refine xw_putI (pc := 93) fd_X18_124 (xfin_of (by decide) (by decide +kernel)) dX18_all_93 (by first | assumption | (simp [-List.getD_eq_getElem?_getD, xE_setI, xsz_setI, xsl_setI, xtag_setI, xown_setI, xlen_setI, xE_setR, xsz_setR, xsl_setR, xtag_setR, xown_setR, xlen_setR, xE_setW, xsz_setW, xsl_setW, xtag_setW, xown_setW, xlen_setW, xi_setR, xi_setW, xr_setI, xr_setW, xww_setI, xww_setR, xi_setI, xr_setR, xww_setW, xE_new, xsz_new, xsl_new, r1, r3, r4, r5, rn, d1, dn, xsub]; done) | (simp [-List.getD_eq_getElem?_getD, xE_setI, xsz_setI, xsl_setI, xtag_setI, xown_setI, xlen_setI, xE_setR, xsz_setR, xsl_setR, xtag_setR, xown_setR, xlen_setR, xE_setW, xsz_setW, xsl_setW, xtag_setW, xown_setW, xlen_setW, xi_setR, xi_setW, xr_setI, xr_setW, xww_setI, xww_setR, xi_setI, xr_setR, xww_setW, xE_new, xsz_new, xsl_new, r1, r3, r4, r5, rn, d1, dn] <;> rfl)) (by first | assumption | (simp [-List.getD_eq_getElem?_getD, xE_setI, xsz_setI, xsl_setI, xtag_setI, xown_setI, xlen_setI, xE_setR, xsz_setR, xsl_setR, xtag_setR, xown_setR, xlen_setR, xE_setW, xsz_setW, xsl_setW, xtag_setW, xown_setW, xlen_setW, xi_setR, xi_setW, xr_setI, xr_setW, xww_setI, xww_setR, xi_setI, xr_setR, xww_setW, xE_new, xsz_new, xsl_new, r1, r3, r4, r5, rn, d1, dn]; done) | (simp [-List.getD_eq_getElem?_getD, xE_setI, xsz_setI, xsl_setI, xtag_setI, xown_setI, xlen_setI, xE_setR, xsz_setR, xsl_setR, xtag_setR, xown_setR, xlen_setR, xE_setW, xsz_setW, xsl_setW, xtag_setW, xown_setW, xlen_setW, xi_setR, xi_setW, xr_setI, xr_setW, xww_setI, xww_setR, xi_setI, xr_setR, xww_setW, xE_new, xsz_new, xsl_new, r1, r3, r4, r5, rn, d1, dn]; assumption)) ?_
  exact (all_end hRd hDq hTd hTl).mono (fun _ _ h9 _ => h9.fr Fd.b14 (by omega))
theorem all_rk {d : Nat} {g : xG} {R D tb p n : Nat} {ch : Nat → Nat} (hR : xRd g R D tb p n ch) {e o : Option Nat} {s f l : Nat} {tl arr : Nat} {ts : List Nat} {T : List xT3} (hD : xDr g D (adE g e) (ofV o) (nI s) (nI 0) (nI f) (nI l) tl arr ts) (hT : xTq g ts T) (hTl : T.length ≤ 15) : XW M_X18_all (d + 12) 66 [(0, .ref R)] [] g (xRA g R D tl 40 (rRk n ch p e o s T f l)) := by
  by_cases h : hIs n ch p 33 = true
  · by_cases hi : hIn n ch (p + 1) 48 57 = true
    · exact all_rk_2 hR hD hT hTl h hi
    · exact all_rk_1 hR hD hT hTl h (Bool.eq_false_iff.mpr hi)
  · exact all_rk_0 hR hD hT hTl (Bool.eq_false_iff.mpr h)
theorem all_la_0 {d : Nat} {g : xG} {R D tb p n : Nat} {ch : Nat → Nat} (hR : xRd g R D tb p n ch) {e o : Option Nat} {s f : Nat} {tl arr : Nat} {ts : List Nat} {T : List xT3} (hD : xDr g D (adE g e) (ofV o) (nI s) (nI 0) (nI f) (nI 999) tl arr ts) (hT : xTq g ts T) (hTl : T.length ≤ 15) (h : hIs n ch p 45 = false) : XW M_X18_all (d + 12) 49 [(0, .ref R)] [] g (xRA g R D tl 60 (rLa n ch p e o s T f)) := by
  have hR0 := hR
  have hD0 := hD
  obtain ⟨r1, r2, r3, r4, r5, hB, r7, r8⟩ := hR
  obtain ⟨d1, d2, d3, d4, d5, d6, d7, d8, d9, d10⟩ := hD
  have rl := hR0.lt
  have rn := hR0.own
  have dn : xown g D ≠ 0 := by rw [d2]; decide
  unfold rLa
  rw [if_neg (Bool.eq_false_iff.mp h)]
  refine xw_aload_n (pc := 49) dX18_all_49 0 rfl ?_
  refine xw_bipush (v := nI 45) (pc := 50) dX18_all_50 (by decide +kernel) ?_
  refine xw_callX (pc := 52) (xr_V (as := [_]) ok_X18_takes rfl (by decide) q1996 q1998 qs39 (by first | (rw [r1]; rfl) | (rw [y1]; rfl) | (rw [z1]; rfl)) (by first | (rw [r1]; rfl) | (rw [y1]; rfl) | (rw [z1]; rfl)) dX18_all_52 rfl rfl (Nat.le_of_ble_eq_true rfl)) (SP_X18_takesF hR0 (by decide) h) ?_
  refine xx_out0 rfl (by rw [xWr_tag]; decide) (by rw [xWr_tag]; decide) (by rw [xWr_own]; decide) ?_
  exact ⟨xsz _, rfl, xWr_tag, xWr_own, (xFr.rf (O := o145) (n := 0) (g := g)).le, xWr_at, (xWr_fr ((xFr.rf (O := o145) (n := 0) (g := g)))).sub (fun _ h => h) (by omega)⟩
theorem all_la_1 {d : Nat} {g : xG} {R D tb p n : Nat} {ch : Nat → Nat} (hR : xRd g R D tb p n ch) {e o : Option Nat} {s f : Nat} {tl arr : Nat} {ts : List Nat} {T : List xT3} (hD : xDr g D (adE g e) (ofV o) (nI s) (nI 0) (nI f) (nI 999) tl arr ts) (hT : xTq g ts T) (hTl : T.length ≤ 15) (h : hIs n ch p 45 = true) (hi : hIn n ch (p + 1) 48 57 = false) : XW M_X18_all (d + 12) 49 [(0, .ref R)] [] g (xRA g R D tl 60 (rLa n ch p e o s T f)) := by
  have hR0 := hR
  have hD0 := hD
  obtain ⟨r1, r2, r3, r4, r5, hB, r7, r8⟩ := hR
  obtain ⟨d1, d2, d3, d4, d5, d6, d7, d8, d9, d10⟩ := hD
  have rl := hR0.lt
  have rn := hR0.own
  have dn : xown g D ≠ 0 := by rw [d2]; decide
  have hpn := (of_decide_eq_true h).1
  have F1 : xFr (oEq 14) 0 g (xsetI g R 2 (nI (p + 1))) := xFr.rf.si (Or.inr r2)
  have hR1 := hR0.to (q := p + 1) (by omega)
  have y1 : xtag (xsetI g R 2 (nI (p + 1))) R = 15 := by rw [xtag_setI]; exact r1
  have hD1 := hD0.at_ (v := nI (p + 1)) r1 r2
  unfold rLa
  rw [if_pos h, if_neg (Bool.eq_false_iff.mp hi)]
  refine xw_aload_n (pc := 49) dX18_all_49 0 rfl ?_
  refine xw_bipush (v := nI 45) (pc := 50) dX18_all_50 (by decide +kernel) ?_
  refine xw_callU (pc := 52) (xr_V (as := [_]) ok_X18_takes rfl (by decide) q1996 q1998 qs39 (by first | (rw [r1]; rfl) | (rw [y1]; rfl) | (rw [z1]; rfl)) (by first | (rw [r1]; rfl) | (rw [y1]; rfl) | (rw [z1]; rfl)) dX18_all_52 rfl rfl (Nat.le_of_ble_eq_true rfl)) (SP_X18_takes hR0 (by decide) h) ?_
  refine xw_aload_n (pc := 55) dX18_all_55 0 rfl ?_
  refine xw_getS (b := D) (pc := 56) fd_X18_12 dX18_all_56 (by first | assumption | (simp [-List.getD_eq_getElem?_getD, xE_setI, xsz_setI, xsl_setI, xtag_setI, xown_setI, xlen_setI, xE_setR, xsz_setR, xsl_setR, xtag_setR, xown_setR, xlen_setR, xE_setW, xsz_setW, xsl_setW, xtag_setW, xown_setW, xlen_setW, xi_setR, xi_setW, xr_setI, xr_setW, xww_setI, xww_setR, xi_setI, xr_setR, xww_setW, xE_new, xsz_new, xsl_new, r1, r3, r4, r5, rn, d1, dn, y1, xsub]; done) | (simp [-List.getD_eq_getElem?_getD, xE_setI, xsz_setI, xsl_setI, xtag_setI, xown_setI, xlen_setI, xE_setR, xsz_setR, xsl_setR, xtag_setR, xown_setR, xlen_setR, xE_setW, xsz_setW, xsl_setW, xtag_setW, xown_setW, xlen_setW, xi_setR, xi_setW, xr_setI, xr_setW, xww_setI, xww_setR, xi_setI, xr_setR, xww_setW, xE_new, xsz_new, xsl_new, r1, r3, r4, r5, rn, d1, dn, y1] <;> rfl)) (by simp [-List.getD_eq_getElem?_getD, xE_setI, xsz_setI, xsl_setI, xtag_setI, xown_setI, xlen_setI, xE_setR, xsz_setR, xsl_setR, xtag_setR, xown_setR, xlen_setR, xE_setW, xsz_setW, xsl_setW, xtag_setW, xown_setW, xlen_setW, xi_setR, xi_setW, xr_setI, xr_setW, xww_setI, xww_setR, xi_setI, xr_setR, xww_setW, xE_new, xsz_new, xsl_new, r1, r3, r4, r5, rn, d1, dn, y1]) ?_
  refine xw_aload_n (pc := 59) dX18_all_59 0 rfl ?_
  refine xw_callX (pc := 60) (xr_V (as := []) ok_X18_number rfl (by decide) q1955 q1957 qs35 (by first | (rw [r1]; rfl) | (rw [y1]; rfl) | (rw [z1]; rfl)) (by first | (rw [r1]; rfl) | (rw [y1]; rfl) | (rw [z1]; rfl)) dX18_all_60 rfl rfl (Nat.le_of_ble_eq_true rfl)) (SP_X18_numberF hR1 hi) ?_
  refine xx_out0 rfl (by rw [xWr_tag]; decide) (by rw [xWr_tag]; decide) (by rw [xWr_own]; decide) ?_
  exact ⟨xsz _, rfl, xWr_tag, xWr_own, F1.b14.le, xWr_at, (xWr_fr (F1.b14)).sub (fun _ h => h) (by omega)⟩
theorem all_la_2 {d : Nat} {g : xG} {R D tb p n : Nat} {ch : Nat → Nat} (hR : xRd g R D tb p n ch) {e o : Option Nat} {s f : Nat} {tl arr : Nat} {ts : List Nat} {T : List xT3} (hD : xDr g D (adE g e) (ofV o) (nI s) (nI 0) (nI f) (nI 999) tl arr ts) (hT : xTq g ts T) (hTl : T.length ≤ 15) (h : hIs n ch p 45 = true) (hi : hIn n ch (p + 1) 48 57 = true) : XW M_X18_all (d + 12) 49 [(0, .ref R)] [] g (xRA g R D tl 60 (rLa n ch p e o s T f)) := by
  have hR0 := hR
  have hD0 := hD
  obtain ⟨r1, r2, r3, r4, r5, hB, r7, r8⟩ := hR
  obtain ⟨d1, d2, d3, d4, d5, d6, d7, d8, d9, d10⟩ := hD
  have rl := hR0.lt
  have rn := hR0.own
  have dn : xown g D ≠ 0 := by rw [d2]; decide
  have hpn := (of_decide_eq_true h).1
  have F1 : xFr (oEq 14) 0 g (xsetI g R 2 (nI (p + 1))) := xFr.rf.si (Or.inr r2)
  have hR1 := hR0.to (q := p + 1) (by omega)
  have y1 : xtag (xsetI g R 2 (nI (p + 1))) R = 15 := by rw [xtag_setI]; exact r1
  have hD1 := hD0.at_ (v := nI (p + 1)) r1 r2
  unfold rLa
  rw [if_pos h, if_pos hi]
  have hpi := (of_decide_eq_true hi).1
  have hNl := rNs_le (n := n) (ch := ch) 2 (ch (p + 1) - 48) (p + 1 + 1) (by omega)
  generalize hNV : (rNs n ch 2 (ch (p + 1) - 48) (p + 1 + 1)) = NV at *
  have hRq := hR0.to (q := NV.2) (by omega)
  have Fq : xFr (oEq 14) 0 g (xsetI g R 2 (nI NV.2)) := xFr.rf.si (Or.inr r2)
  have hDq := (hD0.at_ (v := nI NV.2) r1 r2).seti (j := 5) (v := nI NV.1)
  have Fd : xFr (oEq 14) 0 g (xsetI (xsetI g R 2 (nI NV.2)) D 5 (nI NV.1)) := Fq.si (Or.inr (by rw [xown_setI]; exact d2))
  have hRd := hRq.set (a := D) (j := 5) (v := nI NV.1) (by rw [xtag_setI]; exact d1) (by rw [xown_setI]; exact d2)
  have z1 : xtag (xsetI (xsetI g R 2 (nI NV.2)) D 5 (nI NV.1)) R = 15 := hRd.1
  have hTd := hT.fr Fd (by unfold oEq; omega)
  have SN : XM M_X18_number (d + 11) [.ref R] (xsetI g R 2 (nI (p + 1))) (xOne (some (.int (nI NV.1))) (xsetI g R 2 (nI NV.2))) := by
    have h9 := SP_X18_number (d := d + 3) hR1 hi
    rw [hNV, xsetI_ov rl] at h9
    exact h9
  refine xw_aload_n (pc := 49) dX18_all_49 0 rfl ?_
  refine xw_bipush (v := nI 45) (pc := 50) dX18_all_50 (by decide +kernel) ?_
  refine xw_callU (pc := 52) (xr_V (as := [_]) ok_X18_takes rfl (by decide) q1996 q1998 qs39 (by first | (rw [r1]; rfl) | (rw [y1]; rfl) | (rw [z1]; rfl)) (by first | (rw [r1]; rfl) | (rw [y1]; rfl) | (rw [z1]; rfl)) dX18_all_52 rfl rfl (Nat.le_of_ble_eq_true rfl)) (SP_X18_takes hR0 (by decide) h) ?_
  refine xw_aload_n (pc := 55) dX18_all_55 0 rfl ?_
  refine xw_getS (b := D) (pc := 56) fd_X18_12 dX18_all_56 (by first | assumption | (simp [-List.getD_eq_getElem?_getD, xE_setI, xsz_setI, xsl_setI, xtag_setI, xown_setI, xlen_setI, xE_setR, xsz_setR, xsl_setR, xtag_setR, xown_setR, xlen_setR, xE_setW, xsz_setW, xsl_setW, xtag_setW, xown_setW, xlen_setW, xi_setR, xi_setW, xr_setI, xr_setW, xww_setI, xww_setR, xi_setI, xr_setR, xww_setW, xE_new, xsz_new, xsl_new, r1, r3, r4, r5, rn, d1, dn, y1, xsub]; done) | (simp [-List.getD_eq_getElem?_getD, xE_setI, xsz_setI, xsl_setI, xtag_setI, xown_setI, xlen_setI, xE_setR, xsz_setR, xsl_setR, xtag_setR, xown_setR, xlen_setR, xE_setW, xsz_setW, xsl_setW, xtag_setW, xown_setW, xlen_setW, xi_setR, xi_setW, xr_setI, xr_setW, xww_setI, xww_setR, xi_setI, xr_setR, xww_setW, xE_new, xsz_new, xsl_new, r1, r3, r4, r5, rn, d1, dn, y1] <;> rfl)) (by simp [-List.getD_eq_getElem?_getD, xE_setI, xsz_setI, xsl_setI, xtag_setI, xown_setI, xlen_setI, xE_setR, xsz_setR, xsl_setR, xtag_setR, xown_setR, xlen_setR, xE_setW, xsz_setW, xsl_setW, xtag_setW, xown_setW, xlen_setW, xi_setR, xi_setW, xr_setI, xr_setW, xww_setI, xww_setR, xi_setI, xr_setR, xww_setW, xE_new, xsz_new, xsl_new, r1, r3, r4, r5, rn, d1, dn, y1]) ?_
  refine xw_aload_n (pc := 59) dX18_all_59 0 rfl ?_
  refine xw_callV (pc := 60) (xr_V (as := []) ok_X18_number rfl (by decide) q1955 q1957 qs35 (by first | (rw [r1]; rfl) | (rw [y1]; rfl) | (rw [z1]; rfl)) (by first | (rw [r1]; rfl) | (rw [y1]; rfl) | (rw [z1]; rfl)) dX18_all_60 rfl rfl (Nat.le_of_ble_eq_true rfl)) (SN) ?_
  refine xw_putI (pc := 63) fd_X18_121 (xfin_of (by decide) (by decide +kernel)) dX18_all_63 (by first | assumption | (simp [-List.getD_eq_getElem?_getD, xE_setI, xsz_setI, xsl_setI, xtag_setI, xown_setI, xlen_setI, xE_setR, xsz_setR, xsl_setR, xtag_setR, xown_setR, xlen_setR, xE_setW, xsz_setW, xsl_setW, xtag_setW, xown_setW, xlen_setW, xi_setR, xi_setW, xr_setI, xr_setW, xww_setI, xww_setR, xi_setI, xr_setR, xww_setW, xE_new, xsz_new, xsl_new, r1, r3, r4, r5, rn, d1, dn, y1, xsub]; done) | (simp [-List.getD_eq_getElem?_getD, xE_setI, xsz_setI, xsl_setI, xtag_setI, xown_setI, xlen_setI, xE_setR, xsz_setR, xsl_setR, xtag_setR, xown_setR, xlen_setR, xE_setW, xsz_setW, xsl_setW, xtag_setW, xown_setW, xlen_setW, xi_setR, xi_setW, xr_setI, xr_setW, xww_setI, xww_setR, xi_setI, xr_setR, xww_setW, xE_new, xsz_new, xsl_new, r1, r3, r4, r5, rn, d1, dn, y1] <;> rfl)) (by first | assumption | (simp [-List.getD_eq_getElem?_getD, xE_setI, xsz_setI, xsl_setI, xtag_setI, xown_setI, xlen_setI, xE_setR, xsz_setR, xsl_setR, xtag_setR, xown_setR, xlen_setR, xE_setW, xsz_setW, xsl_setW, xtag_setW, xown_setW, xlen_setW, xi_setR, xi_setW, xr_setI, xr_setW, xww_setI, xww_setR, xi_setI, xr_setR, xww_setW, xE_new, xsz_new, xsl_new, r1, r3, r4, r5, rn, d1, dn, y1]; done) | (simp [-List.getD_eq_getElem?_getD, xE_setI, xsz_setI, xsl_setI, xtag_setI, xown_setI, xlen_setI, xE_setR, xsz_setR, xsl_setR, xtag_setR, xown_setR, xlen_setR, xE_setW, xsz_setW, xsl_setW, xtag_setW, xown_setW, xlen_setW, xi_setR, xi_setW, xr_setI, xr_setW, xww_setI, xww_setR, xi_setI, xr_setR, xww_setW, xE_new, xsz_new, xsl_new, r1, r3, r4, r5, rn, d1, dn, y1]; assumption)) ?_
  exact (all_rk hRd hDq hTd hTl).mono (fun _ _ h9 _ => h9.fr Fd.b14 (by omega))
theorem all_la {d : Nat} {g : xG} {R D tb p n : Nat} {ch : Nat → Nat} (hR : xRd g R D tb p n ch) {e o : Option Nat} {s f : Nat} {tl arr : Nat} {ts : List Nat} {T : List xT3} (hD : xDr g D (adE g e) (ofV o) (nI s) (nI 0) (nI f) (nI 999) tl arr ts) (hT : xTq g ts T) (hTl : T.length ≤ 15) : XW M_X18_all (d + 12) 49 [(0, .ref R)] [] g (xRA g R D tl 60 (rLa n ch p e o s T f)) := by
  by_cases h : hIs n ch p 45 = true
  · by_cases hi : hIn n ch (p + 1) 48 57 = true
    · exact all_la_2 hR hD hT hTl h hi
    · exact all_la_1 hR hD hT hTl h (Bool.eq_false_iff.mpr hi)
  · exact all_la_0 hR hD hT hTl (Bool.eq_false_iff.mpr h)
theorem all_dy_0 {d : Nat} {g : xG} {R D tb p n : Nat} {ch : Nat → Nat} (hR : xRd g R D tb p n ch) {e o : Option Nat} {s : Nat} {tl arr : Nat} {ts : List Nat} {T : List xT3} (hD : xDr g D (adE g e) (ofV o) (nI s) (nI 0) (nI 0) (nI 999) tl arr ts) (hT : xTq g ts T) (hTl : T.length ≤ 15) (h : hIs n ch p 64 = false) : XW M_X18_all (d + 12) 19 [(0, .ref R)] [] g (xRA g R D tl 80 (rDy n ch p e o s T)) := by
  have hR0 := hR
  have hD0 := hD
  obtain ⟨r1, r2, r3, r4, r5, hB, r7, r8⟩ := hR
  obtain ⟨d1, d2, d3, d4, d5, d6, d7, d8, d9, d10⟩ := hD
  have rl := hR0.lt
  have rn := hR0.own
  have dn : xown g D ≠ 0 := by rw [d2]; decide
  unfold rDy
  rw [if_neg (Bool.eq_false_iff.mp h)]
  refine xw_aload_n (pc := 19) dX18_all_19 0 rfl ?_
  refine xw_bipush (v := nI 64) (pc := 20) dX18_all_20 (by decide +kernel) ?_
  refine xw_callV (pc := 22) (xr_V (as := [_]) ok_X18_isHere rfl (by decide) q1904 q1906 qs33 (by first | (rw [r1]; rfl) | (rw [y1]; rfl) | (rw [z1]; rfl)) (by first | (rw [r1]; rfl) | (rw [y1]; rfl) | (rw [z1]; rfl)) dX18_all_22 rfl rfl (Nat.le_of_ble_eq_true rfl)) ((show XM M_X18_isHere (d + 11) [.ref R, .int (nI 64)] g (xOne (some (.int (bI false))) g) from h ▸ SP_X18_isHere (d := d + 5) hR0 (by decide))) ?_
  refine xw_if_eq (pc := 25) 66 dX18_all_25 rfl (fun _ => ?_) (fun hb => absurd hb (by decide))
  exact (all_rk hR0 hD0 hT hTl).mono (fun _ _ h9 _ => h9.fr (xFr.rf (O := o145) (n := 0) (g := g)) (by omega))
theorem all_dy_1 {d : Nat} {g : xG} {R D tb p n : Nat} {ch : Nat → Nat} (hR : xRd g R D tb p n ch) {e o : Option Nat} {s : Nat} {tl arr : Nat} {ts : List Nat} {T : List xT3} (hD : xDr g D (adE g e) (ofV o) (nI s) (nI 0) (nI 0) (nI 999) tl arr ts) (hT : xTq g ts T) (hTl : T.length ≤ 15) (h : hIs n ch p 64 = true) (hi : hIn n ch (p + 1) 48 57 = false) : XW M_X18_all (d + 12) 19 [(0, .ref R)] [] g (xRA g R D tl 80 (rDy n ch p e o s T)) := by
  have hR0 := hR
  have hD0 := hD
  obtain ⟨r1, r2, r3, r4, r5, hB, r7, r8⟩ := hR
  obtain ⟨d1, d2, d3, d4, d5, d6, d7, d8, d9, d10⟩ := hD
  have rl := hR0.lt
  have rn := hR0.own
  have dn : xown g D ≠ 0 := by rw [d2]; decide
  have hpn := (of_decide_eq_true h).1
  have F1 : xFr (oEq 14) 0 g (xsetI g R 2 (nI (p + 1))) := xFr.rf.si (Or.inr r2)
  have hR1 := hR0.to (q := p + 1) (by omega)
  have y1 : xtag (xsetI g R 2 (nI (p + 1))) R = 15 := by rw [xtag_setI]; exact r1
  have hD1 := hD0.at_ (v := nI (p + 1)) r1 r2
  unfold rDy
  rw [if_pos h, if_neg (Bool.eq_false_iff.mp hi)]
  refine xw_aload_n (pc := 19) dX18_all_19 0 rfl ?_
  refine xw_bipush (v := nI 64) (pc := 20) dX18_all_20 (by decide +kernel) ?_
  refine xw_callV (pc := 22) (xr_V (as := [_]) ok_X18_isHere rfl (by decide) q1904 q1906 qs33 (by first | (rw [r1]; rfl) | (rw [y1]; rfl) | (rw [z1]; rfl)) (by first | (rw [r1]; rfl) | (rw [y1]; rfl) | (rw [z1]; rfl)) dX18_all_22 rfl rfl (Nat.le_of_ble_eq_true rfl)) ((show XM M_X18_isHere (d + 11) [.ref R, .int (nI 64)] g (xOne (some (.int (bI true))) g) from h ▸ SP_X18_isHere (d := d + 5) hR0 (by decide))) ?_
  refine xw_if_eq (pc := 25) 66 dX18_all_25 rfl (fun hb => absurd hb (by decide)) (fun _ => ?_)
  refine xw_aload_n (pc := 28) dX18_all_28 0 rfl ?_
  refine xw_dup (pc := 29) dX18_all_29 rfl ?_
  refine xw_getNat (k := p) (pc := 30) fd_X18_22 dX18_all_30 (by first | assumption | (simp [-List.getD_eq_getElem?_getD, xE_setI, xsz_setI, xsl_setI, xtag_setI, xown_setI, xlen_setI, xE_setR, xsz_setR, xsl_setR, xtag_setR, xown_setR, xlen_setR, xE_setW, xsz_setW, xsl_setW, xtag_setW, xown_setW, xlen_setW, xi_setR, xi_setW, xr_setI, xr_setW, xww_setI, xww_setR, xi_setI, xr_setR, xww_setW, xE_new, xsz_new, xsl_new, r1, r3, r4, r5, rn, d1, dn, xsub]; done) | (simp [-List.getD_eq_getElem?_getD, xE_setI, xsz_setI, xsl_setI, xtag_setI, xown_setI, xlen_setI, xE_setR, xsz_setR, xsl_setR, xtag_setR, xown_setR, xlen_setR, xE_setW, xsz_setW, xsl_setW, xtag_setW, xown_setW, xlen_setW, xi_setR, xi_setW, xr_setI, xr_setW, xww_setI, xww_setR, xi_setI, xr_setR, xww_setW, xE_new, xsz_new, xsl_new, r1, r3, r4, r5, rn, d1, dn] <;> rfl)) (by simp [-List.getD_eq_getElem?_getD, xE_setI, xsz_setI, xsl_setI, xtag_setI, xown_setI, xlen_setI, xE_setR, xsz_setR, xsl_setR, xtag_setR, xown_setR, xlen_setR, xE_setW, xsz_setW, xsl_setW, xtag_setW, xown_setW, xlen_setW, xi_setR, xi_setW, xr_setI, xr_setW, xww_setI, xww_setR, xi_setI, xr_setR, xww_setW, xE_new, xsz_new, xsl_new, r1, r3, r4, r5, rn, d1, dn]) ?_
  refine xw_iconst (v := nI 1) (pc := 33) dX18_all_33 rfl ?_
  refine xn_iadd (pc := 34) dX18_all_34 ?_
  refine xw_putI (pc := 35) fd_X18_22 (xfin_of (by decide) (by decide +kernel)) dX18_all_35 (by first | assumption | (simp [-List.getD_eq_getElem?_getD, xE_setI, xsz_setI, xsl_setI, xtag_setI, xown_setI, xlen_setI, xE_setR, xsz_setR, xsl_setR, xtag_setR, xown_setR, xlen_setR, xE_setW, xsz_setW, xsl_setW, xtag_setW, xown_setW, xlen_setW, xi_setR, xi_setW, xr_setI, xr_setW, xww_setI, xww_setR, xi_setI, xr_setR, xww_setW, xE_new, xsz_new, xsl_new, r1, r3, r4, r5, rn, d1, dn, xsub]; done) | (simp [-List.getD_eq_getElem?_getD, xE_setI, xsz_setI, xsl_setI, xtag_setI, xown_setI, xlen_setI, xE_setR, xsz_setR, xsl_setR, xtag_setR, xown_setR, xlen_setR, xE_setW, xsz_setW, xsl_setW, xtag_setW, xown_setW, xlen_setW, xi_setR, xi_setW, xr_setI, xr_setW, xww_setI, xww_setR, xi_setI, xr_setR, xww_setW, xE_new, xsz_new, xsl_new, r1, r3, r4, r5, rn, d1, dn] <;> rfl)) (by first | assumption | (simp [-List.getD_eq_getElem?_getD, xE_setI, xsz_setI, xsl_setI, xtag_setI, xown_setI, xlen_setI, xE_setR, xsz_setR, xsl_setR, xtag_setR, xown_setR, xlen_setR, xE_setW, xsz_setW, xsl_setW, xtag_setW, xown_setW, xlen_setW, xi_setR, xi_setW, xr_setI, xr_setW, xww_setI, xww_setR, xi_setI, xr_setR, xww_setW, xE_new, xsz_new, xsl_new, r1, r3, r4, r5, rn, d1, dn]; done) | (simp [-List.getD_eq_getElem?_getD, xE_setI, xsz_setI, xsl_setI, xtag_setI, xown_setI, xlen_setI, xE_setR, xsz_setR, xsl_setR, xtag_setR, xown_setR, xlen_setR, xE_setW, xsz_setW, xsl_setW, xtag_setW, xown_setW, xlen_setW, xi_setR, xi_setW, xr_setI, xr_setW, xww_setI, xww_setR, xi_setI, xr_setR, xww_setW, xE_new, xsz_new, xsl_new, r1, r3, r4, r5, rn, d1, dn]; assumption)) ?_
  refine xw_aload_n (pc := 38) dX18_all_38 0 rfl ?_
  refine xw_getS (b := D) (pc := 39) fd_X18_12 dX18_all_39 (by first | assumption | (simp [-List.getD_eq_getElem?_getD, xE_setI, xsz_setI, xsl_setI, xtag_setI, xown_setI, xlen_setI, xE_setR, xsz_setR, xsl_setR, xtag_setR, xown_setR, xlen_setR, xE_setW, xsz_setW, xsl_setW, xtag_setW, xown_setW, xlen_setW, xi_setR, xi_setW, xr_setI, xr_setW, xww_setI, xww_setR, xi_setI, xr_setR, xww_setW, xE_new, xsz_new, xsl_new, r1, r3, r4, r5, rn, d1, dn, xsub]; done) | (simp [-List.getD_eq_getElem?_getD, xE_setI, xsz_setI, xsl_setI, xtag_setI, xown_setI, xlen_setI, xE_setR, xsz_setR, xsl_setR, xtag_setR, xown_setR, xlen_setR, xE_setW, xsz_setW, xsl_setW, xtag_setW, xown_setW, xlen_setW, xi_setR, xi_setW, xr_setI, xr_setW, xww_setI, xww_setR, xi_setI, xr_setR, xww_setW, xE_new, xsz_new, xsl_new, r1, r3, r4, r5, rn, d1, dn] <;> rfl)) (by simp [-List.getD_eq_getElem?_getD, xE_setI, xsz_setI, xsl_setI, xtag_setI, xown_setI, xlen_setI, xE_setR, xsz_setR, xsl_setR, xtag_setR, xown_setR, xlen_setR, xE_setW, xsz_setW, xsl_setW, xtag_setW, xown_setW, xlen_setW, xi_setR, xi_setW, xr_setI, xr_setW, xww_setI, xww_setR, xi_setI, xr_setR, xww_setW, xE_new, xsz_new, xsl_new, r1, r3, r4, r5, rn, d1, dn]) ?_
  refine xw_aload_n (pc := 42) dX18_all_42 0 rfl ?_
  refine xw_callX (pc := 43) (xr_V (as := []) ok_X18_number rfl (by decide) q1955 q1957 qs35 (by first | (rw [r1]; rfl) | (rw [y1]; rfl) | (rw [z1]; rfl)) (by first | (rw [r1]; rfl) | (rw [y1]; rfl) | (rw [z1]; rfl)) dX18_all_43 rfl rfl (Nat.le_of_ble_eq_true rfl)) (SP_X18_numberF hR1 hi) ?_
  refine xx_out0 rfl (by rw [xWr_tag]; decide) (by rw [xWr_tag]; decide) (by rw [xWr_own]; decide) ?_
  exact ⟨xsz _, rfl, xWr_tag, xWr_own, F1.b14.le, xWr_at, (xWr_fr (F1.b14)).sub (fun _ h => h) (by omega)⟩
theorem all_dy_2 {d : Nat} {g : xG} {R D tb p n : Nat} {ch : Nat → Nat} (hR : xRd g R D tb p n ch) {e o : Option Nat} {s : Nat} {tl arr : Nat} {ts : List Nat} {T : List xT3} (hD : xDr g D (adE g e) (ofV o) (nI s) (nI 0) (nI 0) (nI 999) tl arr ts) (hT : xTq g ts T) (hTl : T.length ≤ 15) (h : hIs n ch p 64 = true) (hi : hIn n ch (p + 1) 48 57 = true) : XW M_X18_all (d + 12) 19 [(0, .ref R)] [] g (xRA g R D tl 80 (rDy n ch p e o s T)) := by
  have hR0 := hR
  have hD0 := hD
  obtain ⟨r1, r2, r3, r4, r5, hB, r7, r8⟩ := hR
  obtain ⟨d1, d2, d3, d4, d5, d6, d7, d8, d9, d10⟩ := hD
  have rl := hR0.lt
  have rn := hR0.own
  have dn : xown g D ≠ 0 := by rw [d2]; decide
  have hpn := (of_decide_eq_true h).1
  have F1 : xFr (oEq 14) 0 g (xsetI g R 2 (nI (p + 1))) := xFr.rf.si (Or.inr r2)
  have hR1 := hR0.to (q := p + 1) (by omega)
  have y1 : xtag (xsetI g R 2 (nI (p + 1))) R = 15 := by rw [xtag_setI]; exact r1
  have hD1 := hD0.at_ (v := nI (p + 1)) r1 r2
  unfold rDy
  rw [if_pos h, if_pos hi]
  have hpi := (of_decide_eq_true hi).1
  have hNl := rNs_le (n := n) (ch := ch) 2 (ch (p + 1) - 48) (p + 1 + 1) (by omega)
  generalize hNV : (rNs n ch 2 (ch (p + 1) - 48) (p + 1 + 1)) = NV at *
  have hRq := hR0.to (q := NV.2) (by omega)
  have Fq : xFr (oEq 14) 0 g (xsetI g R 2 (nI NV.2)) := xFr.rf.si (Or.inr r2)
  have hDq := (hD0.at_ (v := nI NV.2) r1 r2).seti (j := 4) (v := nI NV.1)
  have Fd : xFr (oEq 14) 0 g (xsetI (xsetI g R 2 (nI NV.2)) D 4 (nI NV.1)) := Fq.si (Or.inr (by rw [xown_setI]; exact d2))
  have hRd := hRq.set (a := D) (j := 4) (v := nI NV.1) (by rw [xtag_setI]; exact d1) (by rw [xown_setI]; exact d2)
  have z1 : xtag (xsetI (xsetI g R 2 (nI NV.2)) D 4 (nI NV.1)) R = 15 := hRd.1
  have hTd := hT.fr Fd (by unfold oEq; omega)
  have SN : XM M_X18_number (d + 11) [.ref R] (xsetI g R 2 (nI (p + 1))) (xOne (some (.int (nI NV.1))) (xsetI g R 2 (nI NV.2))) := by
    have h9 := SP_X18_number (d := d + 3) hR1 hi
    rw [hNV, xsetI_ov rl] at h9
    exact h9
  refine xw_aload_n (pc := 19) dX18_all_19 0 rfl ?_
  refine xw_bipush (v := nI 64) (pc := 20) dX18_all_20 (by decide +kernel) ?_
  refine xw_callV (pc := 22) (xr_V (as := [_]) ok_X18_isHere rfl (by decide) q1904 q1906 qs33 (by first | (rw [r1]; rfl) | (rw [y1]; rfl) | (rw [z1]; rfl)) (by first | (rw [r1]; rfl) | (rw [y1]; rfl) | (rw [z1]; rfl)) dX18_all_22 rfl rfl (Nat.le_of_ble_eq_true rfl)) ((show XM M_X18_isHere (d + 11) [.ref R, .int (nI 64)] g (xOne (some (.int (bI true))) g) from h ▸ SP_X18_isHere (d := d + 5) hR0 (by decide))) ?_
  refine xw_if_eq (pc := 25) 66 dX18_all_25 rfl (fun hb => absurd hb (by decide)) (fun _ => ?_)
  refine xw_aload_n (pc := 28) dX18_all_28 0 rfl ?_
  refine xw_dup (pc := 29) dX18_all_29 rfl ?_
  refine xw_getNat (k := p) (pc := 30) fd_X18_22 dX18_all_30 (by first | assumption | (simp [-List.getD_eq_getElem?_getD, xE_setI, xsz_setI, xsl_setI, xtag_setI, xown_setI, xlen_setI, xE_setR, xsz_setR, xsl_setR, xtag_setR, xown_setR, xlen_setR, xE_setW, xsz_setW, xsl_setW, xtag_setW, xown_setW, xlen_setW, xi_setR, xi_setW, xr_setI, xr_setW, xww_setI, xww_setR, xi_setI, xr_setR, xww_setW, xE_new, xsz_new, xsl_new, r1, r3, r4, r5, rn, d1, dn, xsub]; done) | (simp [-List.getD_eq_getElem?_getD, xE_setI, xsz_setI, xsl_setI, xtag_setI, xown_setI, xlen_setI, xE_setR, xsz_setR, xsl_setR, xtag_setR, xown_setR, xlen_setR, xE_setW, xsz_setW, xsl_setW, xtag_setW, xown_setW, xlen_setW, xi_setR, xi_setW, xr_setI, xr_setW, xww_setI, xww_setR, xi_setI, xr_setR, xww_setW, xE_new, xsz_new, xsl_new, r1, r3, r4, r5, rn, d1, dn] <;> rfl)) (by simp [-List.getD_eq_getElem?_getD, xE_setI, xsz_setI, xsl_setI, xtag_setI, xown_setI, xlen_setI, xE_setR, xsz_setR, xsl_setR, xtag_setR, xown_setR, xlen_setR, xE_setW, xsz_setW, xsl_setW, xtag_setW, xown_setW, xlen_setW, xi_setR, xi_setW, xr_setI, xr_setW, xww_setI, xww_setR, xi_setI, xr_setR, xww_setW, xE_new, xsz_new, xsl_new, r1, r3, r4, r5, rn, d1, dn]) ?_
  refine xw_iconst (v := nI 1) (pc := 33) dX18_all_33 rfl ?_
  refine xn_iadd (pc := 34) dX18_all_34 ?_
  refine xw_putI (pc := 35) fd_X18_22 (xfin_of (by decide) (by decide +kernel)) dX18_all_35 (by first | assumption | (simp [-List.getD_eq_getElem?_getD, xE_setI, xsz_setI, xsl_setI, xtag_setI, xown_setI, xlen_setI, xE_setR, xsz_setR, xsl_setR, xtag_setR, xown_setR, xlen_setR, xE_setW, xsz_setW, xsl_setW, xtag_setW, xown_setW, xlen_setW, xi_setR, xi_setW, xr_setI, xr_setW, xww_setI, xww_setR, xi_setI, xr_setR, xww_setW, xE_new, xsz_new, xsl_new, r1, r3, r4, r5, rn, d1, dn, xsub]; done) | (simp [-List.getD_eq_getElem?_getD, xE_setI, xsz_setI, xsl_setI, xtag_setI, xown_setI, xlen_setI, xE_setR, xsz_setR, xsl_setR, xtag_setR, xown_setR, xlen_setR, xE_setW, xsz_setW, xsl_setW, xtag_setW, xown_setW, xlen_setW, xi_setR, xi_setW, xr_setI, xr_setW, xww_setI, xww_setR, xi_setI, xr_setR, xww_setW, xE_new, xsz_new, xsl_new, r1, r3, r4, r5, rn, d1, dn] <;> rfl)) (by first | assumption | (simp [-List.getD_eq_getElem?_getD, xE_setI, xsz_setI, xsl_setI, xtag_setI, xown_setI, xlen_setI, xE_setR, xsz_setR, xsl_setR, xtag_setR, xown_setR, xlen_setR, xE_setW, xsz_setW, xsl_setW, xtag_setW, xown_setW, xlen_setW, xi_setR, xi_setW, xr_setI, xr_setW, xww_setI, xww_setR, xi_setI, xr_setR, xww_setW, xE_new, xsz_new, xsl_new, r1, r3, r4, r5, rn, d1, dn]; done) | (simp [-List.getD_eq_getElem?_getD, xE_setI, xsz_setI, xsl_setI, xtag_setI, xown_setI, xlen_setI, xE_setR, xsz_setR, xsl_setR, xtag_setR, xown_setR, xlen_setR, xE_setW, xsz_setW, xsl_setW, xtag_setW, xown_setW, xlen_setW, xi_setR, xi_setW, xr_setI, xr_setW, xww_setI, xww_setR, xi_setI, xr_setR, xww_setW, xE_new, xsz_new, xsl_new, r1, r3, r4, r5, rn, d1, dn]; assumption)) ?_
  refine xw_aload_n (pc := 38) dX18_all_38 0 rfl ?_
  refine xw_getS (b := D) (pc := 39) fd_X18_12 dX18_all_39 (by first | assumption | (simp [-List.getD_eq_getElem?_getD, xE_setI, xsz_setI, xsl_setI, xtag_setI, xown_setI, xlen_setI, xE_setR, xsz_setR, xsl_setR, xtag_setR, xown_setR, xlen_setR, xE_setW, xsz_setW, xsl_setW, xtag_setW, xown_setW, xlen_setW, xi_setR, xi_setW, xr_setI, xr_setW, xww_setI, xww_setR, xi_setI, xr_setR, xww_setW, xE_new, xsz_new, xsl_new, r1, r3, r4, r5, rn, d1, dn, xsub]; done) | (simp [-List.getD_eq_getElem?_getD, xE_setI, xsz_setI, xsl_setI, xtag_setI, xown_setI, xlen_setI, xE_setR, xsz_setR, xsl_setR, xtag_setR, xown_setR, xlen_setR, xE_setW, xsz_setW, xsl_setW, xtag_setW, xown_setW, xlen_setW, xi_setR, xi_setW, xr_setI, xr_setW, xww_setI, xww_setR, xi_setI, xr_setR, xww_setW, xE_new, xsz_new, xsl_new, r1, r3, r4, r5, rn, d1, dn] <;> rfl)) (by simp [-List.getD_eq_getElem?_getD, xE_setI, xsz_setI, xsl_setI, xtag_setI, xown_setI, xlen_setI, xE_setR, xsz_setR, xsl_setR, xtag_setR, xown_setR, xlen_setR, xE_setW, xsz_setW, xsl_setW, xtag_setW, xown_setW, xlen_setW, xi_setR, xi_setW, xr_setI, xr_setW, xww_setI, xww_setR, xi_setI, xr_setR, xww_setW, xE_new, xsz_new, xsl_new, r1, r3, r4, r5, rn, d1, dn]) ?_
  refine xw_aload_n (pc := 42) dX18_all_42 0 rfl ?_
  refine xw_callV (pc := 43) (xr_V (as := []) ok_X18_number rfl (by decide) q1955 q1957 qs35 (by first | (rw [r1]; rfl) | (rw [y1]; rfl) | (rw [z1]; rfl)) (by first | (rw [r1]; rfl) | (rw [y1]; rfl) | (rw [z1]; rfl)) dX18_all_43 rfl rfl (Nat.le_of_ble_eq_true rfl)) (SN) ?_
  refine xw_putI (pc := 46) fd_X18_118 (xfin_of (by decide) (by decide +kernel)) dX18_all_46 (by first | assumption | (simp [-List.getD_eq_getElem?_getD, xE_setI, xsz_setI, xsl_setI, xtag_setI, xown_setI, xlen_setI, xE_setR, xsz_setR, xsl_setR, xtag_setR, xown_setR, xlen_setR, xE_setW, xsz_setW, xsl_setW, xtag_setW, xown_setW, xlen_setW, xi_setR, xi_setW, xr_setI, xr_setW, xww_setI, xww_setR, xi_setI, xr_setR, xww_setW, xE_new, xsz_new, xsl_new, r1, r3, r4, r5, rn, d1, dn, xsub]; done) | (simp [-List.getD_eq_getElem?_getD, xE_setI, xsz_setI, xsl_setI, xtag_setI, xown_setI, xlen_setI, xE_setR, xsz_setR, xsl_setR, xtag_setR, xown_setR, xlen_setR, xE_setW, xsz_setW, xsl_setW, xtag_setW, xown_setW, xlen_setW, xi_setR, xi_setW, xr_setI, xr_setW, xww_setI, xww_setR, xi_setI, xr_setR, xww_setW, xE_new, xsz_new, xsl_new, r1, r3, r4, r5, rn, d1, dn] <;> rfl)) (by first | assumption | (simp [-List.getD_eq_getElem?_getD, xE_setI, xsz_setI, xsl_setI, xtag_setI, xown_setI, xlen_setI, xE_setR, xsz_setR, xsl_setR, xtag_setR, xown_setR, xlen_setR, xE_setW, xsz_setW, xsl_setW, xtag_setW, xown_setW, xlen_setW, xi_setR, xi_setW, xr_setI, xr_setW, xww_setI, xww_setR, xi_setI, xr_setR, xww_setW, xE_new, xsz_new, xsl_new, r1, r3, r4, r5, rn, d1, dn]; done) | (simp [-List.getD_eq_getElem?_getD, xE_setI, xsz_setI, xsl_setI, xtag_setI, xown_setI, xlen_setI, xE_setR, xsz_setR, xsl_setR, xtag_setR, xown_setR, xlen_setR, xE_setW, xsz_setW, xsl_setW, xtag_setW, xown_setW, xlen_setW, xi_setR, xi_setW, xr_setI, xr_setW, xww_setI, xww_setR, xi_setI, xr_setR, xww_setW, xE_new, xsz_new, xsl_new, r1, r3, r4, r5, rn, d1, dn]; assumption)) ?_
  exact (all_la hRd hDq hTd hTl).mono (fun _ _ h9 _ => h9.fr Fd.b14 (by omega))
theorem all_dy {d : Nat} {g : xG} {R D tb p n : Nat} {ch : Nat → Nat} (hR : xRd g R D tb p n ch) {e o : Option Nat} {s : Nat} {tl arr : Nat} {ts : List Nat} {T : List xT3} (hD : xDr g D (adE g e) (ofV o) (nI s) (nI 0) (nI 0) (nI 999) tl arr ts) (hT : xTq g ts T) (hTl : T.length ≤ 15) : XW M_X18_all (d + 12) 19 [(0, .ref R)] [] g (xRA g R D tl 80 (rDy n ch p e o s T)) := by
  by_cases h : hIs n ch p 64 = true
  · by_cases hi : hIn n ch (p + 1) 48 57 = true
    · exact all_dy_2 hR hD hT hTl h hi
    · exact all_dy_1 hR hD hT hTl h (Bool.eq_false_iff.mpr hi)
  · exact all_dy_0 hR hD hT hTl (Bool.eq_false_iff.mpr h)
theorem all_sc_0 {d : Nat} {g : xG} {R D tb p n : Nat} {ch : Nat → Nat} (hR : xRd g R D tb p n ch) (hSC : xSC g) {e o : Option Nat} {tl arr : Nat} (hD : xDr g D (adE g e) (ofV o) (nI 0) (nI 0) (nI 0) (nI 999) tl arr []) (h : hIn n ch p 48 57 = false) : XW M_X18_all (d + 12) 4 [(0, .ref R)] [] g (xRA g R D tl 17200 (rSc n ch p e o)) := by
  have hR0 := hR
  have hD0 := hD
  obtain ⟨r1, r2, r3, r4, r5, hB, r7, r8⟩ := hR
  obtain ⟨d1, d2, d3, d4, d5, d6, d7, d8, d9, d10⟩ := hD
  have rl := hR0.lt
  have rn := hR0.own
  have dn : xown g D ≠ 0 := by rw [d2]; decide
  unfold rSc
  rw [if_neg (Bool.eq_false_iff.mp h)]
  refine xw_aload_n (pc := 4) dX18_all_4 0 rfl ?_
  refine xw_getS (b := D) (pc := 5) fd_X18_12 dX18_all_5 (by first | assumption | (simp [-List.getD_eq_getElem?_getD, xE_setI, xsz_setI, xsl_setI, xtag_setI, xown_setI, xlen_setI, xE_setR, xsz_setR, xsl_setR, xtag_setR, xown_setR, xlen_setR, xE_setW, xsz_setW, xsl_setW, xtag_setW, xown_setW, xlen_setW, xi_setR, xi_setW, xr_setI, xr_setW, xww_setI, xww_setR, xi_setI, xr_setR, xww_setW, xE_new, xsz_new, xsl_new, r1, r3, r4, r5, rn, d1, dn, xsub]; done) | (simp [-List.getD_eq_getElem?_getD, xE_setI, xsz_setI, xsl_setI, xtag_setI, xown_setI, xlen_setI, xE_setR, xsz_setR, xsl_setR, xtag_setR, xown_setR, xlen_setR, xE_setW, xsz_setW, xsl_setW, xtag_setW, xown_setW, xlen_setW, xi_setR, xi_setW, xr_setI, xr_setW, xww_setI, xww_setR, xi_setI, xr_setR, xww_setW, xE_new, xsz_new, xsl_new, r1, r3, r4, r5, rn, d1, dn] <;> rfl)) (by simp [-List.getD_eq_getElem?_getD, xE_setI, xsz_setI, xsl_setI, xtag_setI, xown_setI, xlen_setI, xE_setR, xsz_setR, xsl_setR, xtag_setR, xown_setR, xlen_setR, xE_setW, xsz_setW, xsl_setW, xtag_setW, xown_setW, xlen_setW, xi_setR, xi_setW, xr_setI, xr_setW, xww_setI, xww_setR, xi_setI, xr_setR, xww_setW, xE_new, xsz_new, xsl_new, r1, r3, r4, r5, rn, d1, dn]) ?_
  refine xw_aload_n (pc := 8) dX18_all_8 0 rfl ?_
  refine xw_callX (pc := 9) (xr_V (as := []) ok_X18_digit rfl (by decide) q1959 q1961 qs36 (by first | (rw [r1]; rfl) | (rw [y1]; rfl) | (rw [z1]; rfl)) (by first | (rw [r1]; rfl) | (rw [y1]; rfl) | (rw [z1]; rfl)) dX18_all_9 rfl rfl (Nat.le_of_ble_eq_true rfl)) (SP_X18_digitF hR0 h) ?_
  refine xx_out0 rfl (by rw [xWr_tag]; decide) (by rw [xWr_tag]; decide) (by rw [xWr_own]; decide) ?_
  exact ⟨xsz _, rfl, xWr_tag, xWr_own, (xFr.rf (O := o145) (n := 0) (g := g)).le, xWr_at, (xWr_fr ((xFr.rf (O := o145) (n := 0) (g := g)))).sub (fun _ h => h) (by omega)⟩
theorem all_sc_1 {d : Nat} {g : xG} {R D tb p n : Nat} {ch : Nat → Nat} (hR : xRd g R D tb p n ch) (hSC : xSC g) {e o : Option Nat} {tl arr : Nat} (hD : xDr g D (adE g e) (ofV o) (nI 0) (nI 0) (nI 0) (nI 999) tl arr []) {x : Nat} (h : hIn n ch p 48 57 = true) (hr : rTs n ch (p + 1) = .error x) : XW M_X18_all (d + 12) 4 [(0, .ref R)] [] g (xRA g R D tl 17200 (rSc n ch p e o)) := by
  have hR0 := hR
  have hD0 := hD
  obtain ⟨r1, r2, r3, r4, r5, hB, r7, r8⟩ := hR
  obtain ⟨d1, d2, d3, d4, d5, d6, d7, d8, d9, d10⟩ := hD
  have rl := hR0.lt
  have rn := hR0.own
  have dn : xown g D ≠ 0 := by rw [d2]; decide
  have hpn := (of_decide_eq_true h).1
  have hT : xTq g [] [] := ⟨rfl, fun j hj => absurd hj (Nat.not_lt_zero _)⟩
  have hRq := hR0.to (q := (p + 1)) (by omega)
  have Fq : xFr (oEq 14) 0 g (xsetI g R 2 (nI (p + 1))) := xFr.rf.si (Or.inr r2)
  have hDq := (hD0.at_ (v := nI (p + 1)) r1 r2).seti (j := 2) (v := nI (ch p - 48))
  have Fd : xFr (oEq 14) 0 g (xsetI (xsetI g R 2 (nI (p + 1))) D 2 (nI (ch p - 48))) := Fq.si (Or.inr (by rw [xown_setI]; exact d2))
  have hRd := hRq.set (a := D) (j := 2) (v := nI (ch p - 48)) (by rw [xtag_setI]; exact d1) (by rw [xown_setI]; exact d2)
  have z1 : xtag (xsetI (xsetI g R 2 (nI (p + 1))) D 2 (nI (ch p - 48))) R = 15 := hRd.1
  have hTd := hT.fr Fd (by unfold oEq; omega)
  have hSCd := hSC.fr Fd (by unfold oEq; omega)
  unfold rSc
  rw [if_pos h]
  have ST := SP_X18_tests (d := d + 2) hRd hSCd hDq
  rw [hr] at ST ⊢
  dsimp only
  refine xw_aload_n (pc := 4) dX18_all_4 0 rfl ?_
  refine xw_getS (b := D) (pc := 5) fd_X18_12 dX18_all_5 (by first | assumption | (simp [-List.getD_eq_getElem?_getD, xE_setI, xsz_setI, xsl_setI, xtag_setI, xown_setI, xlen_setI, xE_setR, xsz_setR, xsl_setR, xtag_setR, xown_setR, xlen_setR, xE_setW, xsz_setW, xsl_setW, xtag_setW, xown_setW, xlen_setW, xi_setR, xi_setW, xr_setI, xr_setW, xww_setI, xww_setR, xi_setI, xr_setR, xww_setW, xE_new, xsz_new, xsl_new, r1, r3, r4, r5, rn, d1, dn, xsub]; done) | (simp [-List.getD_eq_getElem?_getD, xE_setI, xsz_setI, xsl_setI, xtag_setI, xown_setI, xlen_setI, xE_setR, xsz_setR, xsl_setR, xtag_setR, xown_setR, xlen_setR, xE_setW, xsz_setW, xsl_setW, xtag_setW, xown_setW, xlen_setW, xi_setR, xi_setW, xr_setI, xr_setW, xww_setI, xww_setR, xi_setI, xr_setR, xww_setW, xE_new, xsz_new, xsl_new, r1, r3, r4, r5, rn, d1, dn] <;> rfl)) (by simp [-List.getD_eq_getElem?_getD, xE_setI, xsz_setI, xsl_setI, xtag_setI, xown_setI, xlen_setI, xE_setR, xsz_setR, xsl_setR, xtag_setR, xown_setR, xlen_setR, xE_setW, xsz_setW, xsl_setW, xtag_setW, xown_setW, xlen_setW, xi_setR, xi_setW, xr_setI, xr_setW, xww_setI, xww_setR, xi_setI, xr_setR, xww_setW, xE_new, xsz_new, xsl_new, r1, r3, r4, r5, rn, d1, dn]) ?_
  refine xw_aload_n (pc := 8) dX18_all_8 0 rfl ?_
  refine xw_callV (pc := 9) (xr_V (as := []) ok_X18_digit rfl (by decide) q1959 q1961 qs36 (by first | (rw [r1]; rfl) | (rw [y1]; rfl) | (rw [z1]; rfl)) (by first | (rw [r1]; rfl) | (rw [y1]; rfl) | (rw [z1]; rfl)) dX18_all_9 rfl rfl (Nat.le_of_ble_eq_true rfl)) (SP_X18_digit hR0 h) ?_
  refine xw_putI (pc := 12) fd_X18_113 (xfin_of (by decide) (by decide +kernel)) dX18_all_12 (by first | assumption | (simp [-List.getD_eq_getElem?_getD, xE_setI, xsz_setI, xsl_setI, xtag_setI, xown_setI, xlen_setI, xE_setR, xsz_setR, xsl_setR, xtag_setR, xown_setR, xlen_setR, xE_setW, xsz_setW, xsl_setW, xtag_setW, xown_setW, xlen_setW, xi_setR, xi_setW, xr_setI, xr_setW, xww_setI, xww_setR, xi_setI, xr_setR, xww_setW, xE_new, xsz_new, xsl_new, r1, r3, r4, r5, rn, d1, dn, xsub]; done) | (simp [-List.getD_eq_getElem?_getD, xE_setI, xsz_setI, xsl_setI, xtag_setI, xown_setI, xlen_setI, xE_setR, xsz_setR, xsl_setR, xtag_setR, xown_setR, xlen_setR, xE_setW, xsz_setW, xsl_setW, xtag_setW, xown_setW, xlen_setW, xi_setR, xi_setW, xr_setI, xr_setW, xww_setI, xww_setR, xi_setI, xr_setR, xww_setW, xE_new, xsz_new, xsl_new, r1, r3, r4, r5, rn, d1, dn] <;> rfl)) (by first | assumption | (simp [-List.getD_eq_getElem?_getD, xE_setI, xsz_setI, xsl_setI, xtag_setI, xown_setI, xlen_setI, xE_setR, xsz_setR, xsl_setR, xtag_setR, xown_setR, xlen_setR, xE_setW, xsz_setW, xsl_setW, xtag_setW, xown_setW, xlen_setW, xi_setR, xi_setW, xr_setI, xr_setW, xww_setI, xww_setR, xi_setI, xr_setR, xww_setW, xE_new, xsz_new, xsl_new, r1, r3, r4, r5, rn, d1, dn]; done) | (simp [-List.getD_eq_getElem?_getD, xE_setI, xsz_setI, xsl_setI, xtag_setI, xown_setI, xlen_setI, xE_setR, xsz_setR, xsl_setR, xtag_setR, xown_setR, xlen_setR, xE_setW, xsz_setW, xsl_setW, xtag_setW, xown_setW, xlen_setW, xi_setR, xi_setW, xr_setI, xr_setW, xww_setI, xww_setR, xi_setI, xr_setR, xww_setW, xE_new, xsz_new, xsl_new, r1, r3, r4, r5, rn, d1, dn]; assumption)) ?_
  refine xw_aload_n (pc := 15) dX18_all_15 0 rfl ?_
  refine xw_callY (pc := 16) (xr_V (as := []) ok_X18_tests rfl (by decide) q2013 q2015 qs40 (by first | (rw [r1]; rfl) | (rw [y1]; rfl) | (rw [z1]; rfl)) (by first | (rw [r1]; rfl) | (rw [y1]; rfl) | (rw [z1]; rfl)) dX18_all_16 rfl rfl (Nat.le_of_ble_eq_true rfl)) ((show XM M_X18_tests (d + 11) [.ref R] _ (xWro _ o145 17000 x) from ST)) xWro_up rfl ?_
  exact fun _ _ h9 => ((h9.fr Fd.b14).le (by omega))
theorem all_sc_2 {d : Nat} {g : xG} {R D tb p n : Nat} {ch : Nat → Nat} (hR : xRd g R D tb p n ch) (hSC : xSC g) {e o : Option Nat} {tl arr : Nat} (hD : xDr g D (adE g e) (ofV o) (nI 0) (nI 0) (nI 0) (nI 999) tl arr []) {T : List xT3} {q : Nat} (h : hIn n ch p 48 57 = true) (hr : rTs n ch (p + 1) = .ok (T, q)) : XW M_X18_all (d + 12) 4 [(0, .ref R)] [] g (xRA g R D tl 17200 (rSc n ch p e o)) := by
  have hR0 := hR
  have hD0 := hD
  obtain ⟨r1, r2, r3, r4, r5, hB, r7, r8⟩ := hR
  obtain ⟨d1, d2, d3, d4, d5, d6, d7, d8, d9, d10⟩ := hD
  have rl := hR0.lt
  have rn := hR0.own
  have dn : xown g D ≠ 0 := by rw [d2]; decide
  have hpn := (of_decide_eq_true h).1
  have hT : xTq g [] [] := ⟨rfl, fun j hj => absurd hj (Nat.not_lt_zero _)⟩
  have hRq := hR0.to (q := (p + 1)) (by omega)
  have Fq : xFr (oEq 14) 0 g (xsetI g R 2 (nI (p + 1))) := xFr.rf.si (Or.inr r2)
  have hDq := (hD0.at_ (v := nI (p + 1)) r1 r2).seti (j := 2) (v := nI (ch p - 48))
  have Fd : xFr (oEq 14) 0 g (xsetI (xsetI g R 2 (nI (p + 1))) D 2 (nI (ch p - 48))) := Fq.si (Or.inr (by rw [xown_setI]; exact d2))
  have hRd := hRq.set (a := D) (j := 2) (v := nI (ch p - 48)) (by rw [xtag_setI]; exact d1) (by rw [xown_setI]; exact d2)
  have z1 : xtag (xsetI (xsetI g R 2 (nI (p + 1))) D 2 (nI (ch p - 48))) R = 15 := hRd.1
  have hTd := hT.fr Fd (by unfold oEq; omega)
  have hSCd := hSC.fr Fd (by unfold oEq; omega)
  unfold rSc
  rw [if_pos h]
  have ST := SP_X18_tests (d := d + 2) hRd hSCd hDq
  rw [hr] at ST ⊢
  dsimp only
  refine xw_aload_n (pc := 4) dX18_all_4 0 rfl ?_
  refine xw_getS (b := D) (pc := 5) fd_X18_12 dX18_all_5 (by first | assumption | (simp [-List.getD_eq_getElem?_getD, xE_setI, xsz_setI, xsl_setI, xtag_setI, xown_setI, xlen_setI, xE_setR, xsz_setR, xsl_setR, xtag_setR, xown_setR, xlen_setR, xE_setW, xsz_setW, xsl_setW, xtag_setW, xown_setW, xlen_setW, xi_setR, xi_setW, xr_setI, xr_setW, xww_setI, xww_setR, xi_setI, xr_setR, xww_setW, xE_new, xsz_new, xsl_new, r1, r3, r4, r5, rn, d1, dn, xsub]; done) | (simp [-List.getD_eq_getElem?_getD, xE_setI, xsz_setI, xsl_setI, xtag_setI, xown_setI, xlen_setI, xE_setR, xsz_setR, xsl_setR, xtag_setR, xown_setR, xlen_setR, xE_setW, xsz_setW, xsl_setW, xtag_setW, xown_setW, xlen_setW, xi_setR, xi_setW, xr_setI, xr_setW, xww_setI, xww_setR, xi_setI, xr_setR, xww_setW, xE_new, xsz_new, xsl_new, r1, r3, r4, r5, rn, d1, dn] <;> rfl)) (by simp [-List.getD_eq_getElem?_getD, xE_setI, xsz_setI, xsl_setI, xtag_setI, xown_setI, xlen_setI, xE_setR, xsz_setR, xsl_setR, xtag_setR, xown_setR, xlen_setR, xE_setW, xsz_setW, xsl_setW, xtag_setW, xown_setW, xlen_setW, xi_setR, xi_setW, xr_setI, xr_setW, xww_setI, xww_setR, xi_setI, xr_setR, xww_setW, xE_new, xsz_new, xsl_new, r1, r3, r4, r5, rn, d1, dn]) ?_
  refine xw_aload_n (pc := 8) dX18_all_8 0 rfl ?_
  refine xw_callV (pc := 9) (xr_V (as := []) ok_X18_digit rfl (by decide) q1959 q1961 qs36 (by first | (rw [r1]; rfl) | (rw [y1]; rfl) | (rw [z1]; rfl)) (by first | (rw [r1]; rfl) | (rw [y1]; rfl) | (rw [z1]; rfl)) dX18_all_9 rfl rfl (Nat.le_of_ble_eq_true rfl)) (SP_X18_digit hR0 h) ?_
  refine xw_putI (pc := 12) fd_X18_113 (xfin_of (by decide) (by decide +kernel)) dX18_all_12 (by first | assumption | (simp [-List.getD_eq_getElem?_getD, xE_setI, xsz_setI, xsl_setI, xtag_setI, xown_setI, xlen_setI, xE_setR, xsz_setR, xsl_setR, xtag_setR, xown_setR, xlen_setR, xE_setW, xsz_setW, xsl_setW, xtag_setW, xown_setW, xlen_setW, xi_setR, xi_setW, xr_setI, xr_setW, xww_setI, xww_setR, xi_setI, xr_setR, xww_setW, xE_new, xsz_new, xsl_new, r1, r3, r4, r5, rn, d1, dn, xsub]; done) | (simp [-List.getD_eq_getElem?_getD, xE_setI, xsz_setI, xsl_setI, xtag_setI, xown_setI, xlen_setI, xE_setR, xsz_setR, xsl_setR, xtag_setR, xown_setR, xlen_setR, xE_setW, xsz_setW, xsl_setW, xtag_setW, xown_setW, xlen_setW, xi_setR, xi_setW, xr_setI, xr_setW, xww_setI, xww_setR, xi_setI, xr_setR, xww_setW, xE_new, xsz_new, xsl_new, r1, r3, r4, r5, rn, d1, dn] <;> rfl)) (by first | assumption | (simp [-List.getD_eq_getElem?_getD, xE_setI, xsz_setI, xsl_setI, xtag_setI, xown_setI, xlen_setI, xE_setR, xsz_setR, xsl_setR, xtag_setR, xown_setR, xlen_setR, xE_setW, xsz_setW, xsl_setW, xtag_setW, xown_setW, xlen_setW, xi_setR, xi_setW, xr_setI, xr_setW, xww_setI, xww_setR, xi_setI, xr_setR, xww_setW, xE_new, xsz_new, xsl_new, r1, r3, r4, r5, rn, d1, dn]; done) | (simp [-List.getD_eq_getElem?_getD, xE_setI, xsz_setI, xsl_setI, xtag_setI, xown_setI, xlen_setI, xE_setR, xsz_setR, xsl_setR, xtag_setR, xown_setR, xlen_setR, xE_setW, xsz_setW, xsl_setW, xtag_setW, xown_setW, xlen_setW, xi_setR, xi_setW, xr_setI, xr_setW, xww_setI, xww_setR, xi_setI, xr_setR, xww_setW, xE_new, xsz_new, xsl_new, r1, r3, r4, r5, rn, d1, dn]; assumption)) ?_
  refine xw_aload_n (pc := 15) dX18_all_15 0 rfl ?_
  refine xw_callH (pc := 16) (xr_V (as := []) ok_X18_tests rfl (by decide) q2013 q2015 qs40 (by first | (rw [r1]; rfl) | (rw [y1]; rfl) | (rw [z1]; rfl)) (by first | (rw [r1]; rfl) | (rw [y1]; rfl) | (rw [z1]; rfl)) dX18_all_16 rfl rfl (Nat.le_of_ble_eq_true rfl)) ((show XM M_X18_tests (d + 11) [.ref R] _ (xVoid (fun g' => ∃ ts arr9, xDr g' D (adE g e) (ofV o) (nI (ch p - 48)) (nI 0) (nI 0) (nI 999) tl arr9 ts ∧ xRd g' R D tb q n ch ∧ xTq g' ts T ∧ T.length ≤ 15 ∧ xFr o145 17000 _ g')) from ST)) ?_
  intro g16 hc16 hm16
  obtain ⟨ts9, arr9, e1, e2, e3, e4, e5⟩ := hc16
  have eE : adE g16 e = adE g e := by
    unfold adE
    cases e with
    | none => rfl
    | some i => rw [e5.e]; rfl
  rw [← eE] at e1
  exact (all_dy e2 e1 e3 e4).mono (fun _ _ h9 _ => h9.fr (Fd.b14.tr e5) (by omega))
theorem all_sc {d : Nat} {g : xG} {R D tb p n : Nat} {ch : Nat → Nat} (hR : xRd g R D tb p n ch) (hSC : xSC g) {e o : Option Nat} {tl arr : Nat} (hD : xDr g D (adE g e) (ofV o) (nI 0) (nI 0) (nI 0) (nI 999) tl arr []) : XW M_X18_all (d + 12) 4 [(0, .ref R)] [] g (xRA g R D tl 17200 (rSc n ch p e o)) := by
  by_cases h : hIn n ch p 48 57 = true
  · cases hr : rTs n ch (p + 1) with
    | error x => exact all_sc_1 hR hSC hD h hr
    | ok z => exact all_sc_2 hR hSC hD h hr
  · exact all_sc_0 hR hSC hD (Bool.eq_false_iff.mpr h)
theorem SP_X18_all_F {d : Nat} {g : xG} {x : Nat} {R D tb n : Nat} {ch : Nat → Nat} (hR : xRd g R D tb 0 n ch) (hSC : xSC g) (hcn : xCn g) {tl arr : Nat} (hD : xDr g D none (-1) (nI 0) (nI 0) (nI 0) (nI 999) tl arr []) (hr : rHd n ch 0 = .error x) : XM M_X18_all (d + 12) [.ref R] g (xRA g R D tl 17300 (rAll n ch)) := by
  have SH := SP_X18_head (d := d + 2) hR hcn hD
  unfold rAll
  rw [hr] at SH ⊢
  dsimp only
  have r1 := hR.1
  refine xm_of (by decide +kernel) (Nat.le_of_ble_eq_true rfl) ?_
  show XW _ _ 0 [(0, _)] [] _ _
  refine xw_aload_n (pc := 0) dX18_all_0 0 rfl ?_
  refine xw_callY (pc := 1) (xr_V (as := []) ok_X18_head rfl (by decide) q1900 q1902 qs32 (by rw [r1]; rfl) (by rw [r1]; rfl) dX18_all_1 rfl rfl (Nat.le_of_ble_eq_true rfl)) ((show XM M_X18_head (d + 11) [.ref R] g (xWro g o145 40 x) from SH)) xWro_up rfl ?_
  exact fun _ _ h9 => h9.le (by omega)

theorem SP_X18_all_O {d : Nat} {g : xG} {e o : Option Nat} {q : Nat} {R D tb n : Nat} {ch : Nat → Nat} (hR : xRd g R D tb 0 n ch) (hSC : xSC g) (hcn : xCn g) {tl arr : Nat} (hD : xDr g D none (-1) (nI 0) (nI 0) (nI 0) (nI 999) tl arr []) (hr : rHd n ch 0 = .ok ((e, o), q)) : XM M_X18_all (d + 12) [.ref R] g (xRA g R D tl 17300 (rAll n ch)) := by
  have SH := SP_X18_head (d := d + 2) hR hcn hD
  unfold rAll
  rw [hr] at SH ⊢
  dsimp only
  have r1 := hR.1
  refine xm_of (by decide +kernel) (Nat.le_of_ble_eq_true rfl) ?_
  show XW _ _ 0 [(0, _)] [] _ _
  refine xw_aload_n (pc := 0) dX18_all_0 0 rfl ?_
  refine xw_callH (pc := 1) (xr_V (as := []) ok_X18_head rfl (by decide) q1900 q1902 qs32 (by rw [r1]; rfl) (by rw [r1]; rfl) dX18_all_1 rfl rfl (Nat.le_of_ble_eq_true rfl)) ((show XM M_X18_head (d + 11) [.ref R] g (xVoid (fun g' => xDr g' D (adE g e) (ofV o) (nI 0) (nI 0) (nI 0) (nI 999) tl arr [] ∧ xRd g' R D tb q n ch ∧ xFr o145 40 g g')) from SH)) ?_
  intro g1 hc1 hm1
  obtain ⟨e1, e2, e5⟩ := hc1
  have eE : adE g1 e = adE g e := by
    unfold adE
    cases e with
    | none => rfl
    | some i => rw [e5.e]
  rw [← eE] at e1
  exact (all_sc e2 (hSC.fr e5 (by unfold o145; omega)) e1).mono (fun _ _ h9 _ => h9.fr e5 (by omega))

theorem SP_X18_all {d : Nat} {g : xG} {R D tb n : Nat} {ch : Nat → Nat} (hR : xRd g R D tb 0 n ch) (hSC : xSC g) (hcn : xCn g) {tl arr : Nat} (hD : xDr g D none (-1) (nI 0) (nI 0) (nI 0) (nI 999) tl arr []) : XM M_X18_all (d + 12) [.ref R] g (xRA g R D tl 17300 (rAll n ch)) := by
  cases hr : rHd n ch 0 with
  | error x => exact SP_X18_all_F hR hSC hcn hD hr
  | ok z => exact SP_X18_all_O hR hSC hcn hD hr
