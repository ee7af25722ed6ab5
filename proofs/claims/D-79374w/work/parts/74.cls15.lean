/-! CLASS 15: a policy, copied -/
set_option maxRecDepth 100000
theorem xr_rcopy {M : xM} {d pc : Nat} {rest : List Value} {g : xG} {idx b : Nat}  (hb : xtag g b = 6 ∨ xtag g b = 7) (hd : decode M.2.1 pc = .ok (.invokevirtual idx, 3)) (hl : Cond.methodLink M.1.cls idx ⟨"PolicyNotation$Rule", "copy", "()LPolicyNotation$Rule;"⟩ ∈ lw_all) (hr : (rest.map fun v => v.category).sum ≤ 8) : xRun M M_X7_copy d pc g (.ref b :: rest) rest (.ref b :: []) := by
  rcases hb with h | h
  · exact xr_U (x := ⟨"PolicyNotation$Rule", "copy", "()LPolicyNotation$Rule;"⟩) (as := []) ok_X7_copy rfl (by decide) hl q915 (Or.inr ⟨_, _, _, q914, q918⟩) ⟨by decide, by decide, by decide +kernel⟩ q914 (by rw [h]; rfl) (by rw [h]; exact q916) hd rfl rfl hr
  · exact xr_U (x := ⟨"PolicyNotation$Rule", "copy", "()LPolicyNotation$Rule;"⟩) (as := []) ok_X7_copy rfl (by decide) hl q915 (Or.inr ⟨_, _, _, q914, q918⟩) ⟨by decide, by decide, by decide +kernel⟩ q914 (by rw [h]; rfl) (by rw [h]; exact q917) hd rfl rfl hr
/-- a scope at the heap's end -/
def xSN (g : xG) (o : Nat) (out : Option Nat) (k : Int32) (own : Option Nat) : xG := xsetR (xsetI (xsetR (xNew g (xBlank 3 o 3) 3) (xsz g) 0 out) (xsz g) 1 k) (xsz g) 2 own
section S15
variable {g g0 : xG} {o N c : Nat} {out own : Option Nat} {k : Int32} {O : Nat → Prop}
theorem xSN.fr (h : xFr O N g0 g) : xFr O (N + 4) g0 (xSN g o out k own) := by
  have h1 : xFr O (N + (3 + 1)) g0 (xNew g (xBlank 3 o 3) 3) := h.nw
  exact ((h1.sr (Or.inl h.le)).si (Or.inl h.le)).sr (Or.inl h.le)
theorem xSN_a : xtag (xSN g o out k own) (xsz g) = 3 ∧ xown (xSN g o out k own) (xsz g) = o ∧ xr (xSN g o out k own) (xsz g) 0 = out ∧ xi (xSN g o out k own) (xsz g) 1 = k ∧ xr (xSN g o out k own) (xsz g) 2 = own := by
  have t : xtag (xNew g (xBlank 3 o 3) 3) (xsz g) = 3 := by rw [xtag_newS rfl]; rfl
  have tn : xtag (xNew g (xBlank 3 o 3) 3) (xsz g) ≠ 0 := by rw [t]; decide
  unfold xSN
  refine ⟨?_, ?_, ?_, ?_, ?_⟩
  · rw [xtag_setR, xtag_setI, xtag_setR]; exact t
  · rw [xown_setR, xown_setI, xown_setR, xown_newS rfl]; rfl
  · rw [xr_setRK (by decide), xr_setI, xr_setRS tn]
  · rw [xi_setR, xi_setIS (by rw [xtag_setR]; exact tn)]
  · rw [xr_setRS (by rw [xtag_setI, xtag_setR]; exact tn)]
theorem SP_X3_new {d : Nat} (ho : o ≠ 0) : XM M_X3_init (d + 1) [.ref (xsz g), xref out, .int k, xref own] (xNew g (xBlank 3 o 3) 3) (xOne none (xSN g o out k own)) :=
  SP_X3_init (by rw [xtag_newS rfl]; rfl) (by rw [xown_newS rfl]; exact ho)
end S15
theorem lp3_X2_init_2 {d : Nat} {g : xG} {p q b0 n rr ww : Nat} {Z : xAd} {s : Nat → Int32} (hP : xPol g p Z s n rr ww) (hq : 0 < q) (hpq : p ≠ q) : ∀ (j k : Nat) (gk : xG) (C R W : List Nat) (N : Nat), ww - k < j → k ≤ ww → W = (aW Z).take k → C.length = n → R.length = rr → xCp gk q b0 s (aT Z) C R W → xFr (oP q) N g gk → N ≤ 1400 → XW M_X2_init_2 (d + 8) 165 [(2, .int (nI k)), (0, .ref q), (1, .ref p)] [] gk (xVoid (fun g' => ∃ Z', xPol g' q Z' s n rr ww ∧ xFr (oP q) 1400 g g')) := by
  intro j
  induction j with
  | zero => intro k gk C R W N h; omega
  | succ j ih =>
    intro k gk C R W N hkj hk hW hC hR hX F hN
    have hPk := hP.fr F (fun o h1 h2 => by unfold oP at h1 h2; omega) (by unfold oP; omega)
    obtain ⟨v1, ⟨v2, v3, v4, v5, v6, v7, v8⟩, v9, v10, v11⟩ := hX
    have hX0 : xCp gk q b0 s (aT Z) C R W := ⟨v1, ⟨v2, v3, v4, v5, v6, v7, v8⟩, v9, v10, v11⟩
    have w1 := hPk.tag
    have w2 := hPk.f0
    have w3 := hPk.f1
    have w4 := hPk.f2
    have tl0 : xtag gk (aL Z 0) = 18 := hPk.l0.1
    have tl1 : xtag gk (aL Z 2) = 18 := hPk.l1.1
    have tl2 : xtag gk (aL Z 4) = 18 := hPk.l2.1
    have tb0 : xtag gk b0 = 18 := v6.1
    have tb2 : xtag gk (b0 + 2) = 18 := v7.1
    have tb4 : xtag gk (b0 + 4) = 18 := v8.1
    have n10 := hP.wf.n10
    have r16 := hP.wf.r16
    have w12 := hP.wf.w12
    have lc := hP.lc
    have lr := hP.lr
    have lw := hP.lw
    have hlw : W.length = k := by rw [hW, List.length_take]; omega
    have hwk : k < ww → xtag gk ((aW Z).getD k 0) = 14 := fun h => (hPk.wk h).1
    refine xw_iload_n (pc := 165) dX2_init_2_165 0 rfl ?_
    refine xw_aload_n (pc := 166) dX2_init_2_166 2 rfl ?_
    refine xw_getS (b := (aL Z 4)) (pc := 167) fd_X2_23 dX2_init_2_167 (by first | assumption | (simp [-List.getD_eq_getElem?_getD, xE_setI, xsz_setI, xsl_setI, xtag_setI, xown_setI, xlen_setI, xE_setR, xsz_setR, xsl_setR, xtag_setR, xown_setR, xlen_setR, xE_setW, xsz_setW, xsl_setW, xtag_setW, xown_setW, xlen_setW, xi_setR, xi_setW, xr_setI, xr_setW, xww_setI, xww_setR, xi_setI, xr_setR, xww_setW, xE_new, xsz_new, xsl_new, w1, w2, w3, w4, v2, v3, v4, v5, xsub]; done) | (simp [-List.getD_eq_getElem?_getD, xE_setI, xsz_setI, xsl_setI, xtag_setI, xown_setI, xlen_setI, xE_setR, xsz_setR, xsl_setR, xtag_setR, xown_setR, xlen_setR, xE_setW, xsz_setW, xsl_setW, xtag_setW, xown_setW, xlen_setW, xi_setR, xi_setW, xr_setI, xr_setW, xww_setI, xww_setR, xi_setI, xr_setR, xww_setW, xE_new, xsz_new, xsl_new, w1, w2, w3, w4, v2, v3, v4, v5] <;> rfl)) (by simp [-List.getD_eq_getElem?_getD, xE_setI, xsz_setI, xsl_setI, xtag_setI, xown_setI, xlen_setI, xE_setR, xsz_setR, xsl_setR, xtag_setR, xown_setR, xlen_setR, xE_setW, xsz_setW, xsl_setW, xtag_setW, xown_setW, xlen_setW, xi_setR, xi_setW, xr_setI, xr_setW, xww_setI, xww_setR, xi_setI, xr_setR, xww_setW, xE_new, xsz_new, xsl_new, w1, w2, w3, w4, v2, v3, v4, v5]) ?_
    refine xw_callV (pc := 170) (xr_V (as := []) ok_J2_size rfl (by decide) q910 q702 q703 (by rw [tl2]; rfl) (by rw [tl2]; rfl) dX2_init_2_170 rfl rfl (Nat.le_of_ble_eq_true rfl)) (SP_J2_size hPk.l2) ?_
    refine xw_icmp_ge (pc := 173) 201 dX2_init_2_173 rfl (fun hb173 => ?_) (fun hb173 => ?_)
    · replace hb173 : (aW Z).length ≤ k := (nI_leI (a := (aW Z).length) (b := k) (by omega) (by omega)).mp hb173
      refine xw_vret (pc := 201) dX2_init_2_201 rfl ?_
      have ek : k = ww := by omega
      rw [ek, ← lw, List.take_length] at hW
      refine ⟨rfl, mkZ b0 C R W (aT Z), hX0.pol hq hP.wf hC hR (by rw [hW]; exact lw) (fun w hw => by rw [hW]; exact hPk.wk hw), F.sub (fun _ h => h) hN⟩
    · replace hb173 : ¬ ((aW Z).length ≤ k) := mt (nI_leI (a := (aW Z).length) (b := k) (by omega) (by omega)).mpr hb173
      refine xw_aload_n (pc := 176) dX2_init_2_176 1 rfl ?_
      refine xw_getS (b := (b0 + 4)) (pc := 177) fd_X2_23 dX2_init_2_177 (by first | assumption | (simp [-List.getD_eq_getElem?_getD, xE_setI, xsz_setI, xsl_setI, xtag_setI, xown_setI, xlen_setI, xE_setR, xsz_setR, xsl_setR, xtag_setR, xown_setR, xlen_setR, xE_setW, xsz_setW, xsl_setW, xtag_setW, xown_setW, xlen_setW, xi_setR, xi_setW, xr_setI, xr_setW, xww_setI, xww_setR, xi_setI, xr_setR, xww_setW, xE_new, xsz_new, xsl_new, w1, w2, w3, w4, v2, v3, v4, v5, xsub]; done) | (simp [-List.getD_eq_getElem?_getD, xE_setI, xsz_setI, xsl_setI, xtag_setI, xown_setI, xlen_setI, xE_setR, xsz_setR, xsl_setR, xtag_setR, xown_setR, xlen_setR, xE_setW, xsz_setW, xsl_setW, xtag_setW, xown_setW, xlen_setW, xi_setR, xi_setW, xr_setI, xr_setW, xww_setI, xww_setR, xi_setI, xr_setR, xww_setW, xE_new, xsz_new, xsl_new, w1, w2, w3, w4, v2, v3, v4, v5] <;> rfl)) (by simp [-List.getD_eq_getElem?_getD, xE_setI, xsz_setI, xsl_setI, xtag_setI, xown_setI, xlen_setI, xE_setR, xsz_setR, xsl_setR, xtag_setR, xown_setR, xlen_setR, xE_setW, xsz_setW, xsl_setW, xtag_setW, xown_setW, xlen_setW, xi_setR, xi_setW, xr_setI, xr_setW, xww_setI, xww_setR, xi_setI, xr_setR, xww_setW, xE_new, xsz_new, xsl_new, w1, w2, w3, w4, v2, v3, v4, v5]) ?_
      refine xw_aload_n (pc := 180) dX2_init_2_180 2 rfl ?_
      refine xw_getS (b := (aL Z 4)) (pc := 181) fd_X2_23 dX2_init_2_181 (by first | assumption | (simp [-List.getD_eq_getElem?_getD, xE_setI, xsz_setI, xsl_setI, xtag_setI, xown_setI, xlen_setI, xE_setR, xsz_setR, xsl_setR, xtag_setR, xown_setR, xlen_setR, xE_setW, xsz_setW, xsl_setW, xtag_setW, xown_setW, xlen_setW, xi_setR, xi_setW, xr_setI, xr_setW, xww_setI, xww_setR, xi_setI, xr_setR, xww_setW, xE_new, xsz_new, xsl_new, w1, w2, w3, w4, v2, v3, v4, v5, xsub]; done) | (simp [-List.getD_eq_getElem?_getD, xE_setI, xsz_setI, xsl_setI, xtag_setI, xown_setI, xlen_setI, xE_setR, xsz_setR, xsl_setR, xtag_setR, xown_setR, xlen_setR, xE_setW, xsz_setW, xsl_setW, xtag_setW, xown_setW, xlen_setW, xi_setR, xi_setW, xr_setI, xr_setW, xww_setI, xww_setR, xi_setI, xr_setR, xww_setW, xE_new, xsz_new, xsl_new, w1, w2, w3, w4, v2, v3, v4, v5] <;> rfl)) (by simp [-List.getD_eq_getElem?_getD, xE_setI, xsz_setI, xsl_setI, xtag_setI, xown_setI, xlen_setI, xE_setR, xsz_setR, xsl_setR, xtag_setR, xown_setR, xlen_setR, xE_setW, xsz_setW, xsl_setW, xtag_setW, xown_setW, xlen_setW, xi_setR, xi_setW, xr_setI, xr_setW, xww_setI, xww_setR, xi_setI, xr_setR, xww_setW, xE_new, xsz_new, xsl_new, w1, w2, w3, w4, v2, v3, v4, v5]) ?_
      refine xw_iload_n (pc := 184) dX2_init_2_184 0 rfl ?_
      refine xw_callV (pc := 185) (xr_V (as := [_]) ok_J2_get rfl (by decide) q911 q706 q707 (by rw [tl2]; rfl) (by rw [tl2]; rfl) dX2_init_2_185 rfl rfl (Nat.le_of_ble_eq_true rfl)) (SP_J2_get hPk.l2 k (by omega)) ?_
      refine xw_chkS (pc := 188) dX2_init_2_188 (by rw [hwk (by omega)]; exact q1028) (by rw [hwk (by omega)]; rfl) ?_
      refine xw_callF (pc := 191) (xr_V (as := [_]) ok_J2_add rfl (by decide) q528 q529 q530 (by rw [tb4]; rfl) (by rw [tb4]; rfl) dX2_init_2_191 rfl rfl (Nat.le_of_ble_eq_true rfl)) (SP_J2_addF v8 (by omega) (xObj_W (hwk (by omega))) (by rw [hlw]; omega)) ?_
      intro g191 hc191 hm191
      refine xw_pop (pc := 194) dX2_init_2_194 rfl ?_
      refine xw_iinc (v := nI (k + 1)) (l' := [(2, _), (0, _), (1, _)]) (pc := 195) dX2_init_2_195 0 rfl (nI_add _ 1) (by decide) rfl ?_
      refine xw_goto (pc := 198) 165 dX2_init_2_198 rfl ?_
      refine ih (k + 1) g191 C R (W ++ [(aW Z).getD k 0]) N (by omega) (by omega) (by rw [hW]; exact take_S (by omega)) hC hR (hX0.stepW hq hc191.2 hc191.1) ((F.tr (hc191.2.sub (fun o h => ?_) (Nat.le_refl _))).sub (fun _ h => h) (by omega)) hN
      unfold oEq at h
      unfold oP
      omega
theorem lp2_X2_init_2 {d : Nat} {g : xG} {p q b0 n rr ww : Nat} {Z : xAd} {s : Nat → Int32} (hP : xPol g p Z s n rr ww) (hq : 0 < q) (hpq : p ≠ q) : ∀ (j k : Nat) (gk : xG) (C R W : List Nat) (N : Nat), rr - k < j → k ≤ rr → W = [] → C.length = n → R.length = k → xCp gk q b0 s (aT Z) C R W → xFr (oP q) N g gk → N ≤ 200 + 60 * k → XW M_X2_init_2 (d + 8) 124 [(2, .int (nI k)), (0, .ref q), (1, .ref p)] [] gk (xVoid (fun g' => ∃ Z', xPol g' q Z' s n rr ww ∧ xFr (oP q) 1400 g g')) := by
  intro j
  induction j with
  | zero => intro k gk C R W N h; omega
  | succ j ih =>
    intro k gk C R W N hkj hk hW hC hR hX F hN
    have hPk := hP.fr F (fun o h1 h2 => by unfold oP at h1 h2; omega) (by unfold oP; omega)
    obtain ⟨v1, ⟨v2, v3, v4, v5, v6, v7, v8⟩, v9, v10, v11⟩ := hX
    have hX0 : xCp gk q b0 s (aT Z) C R W := ⟨v1, ⟨v2, v3, v4, v5, v6, v7, v8⟩, v9, v10, v11⟩
    have w1 := hPk.tag
    have w2 := hPk.f0
    have w3 := hPk.f1
    have w4 := hPk.f2
    have tl0 : xtag gk (aL Z 0) = 18 := hPk.l0.1
    have tl1 : xtag gk (aL Z 2) = 18 := hPk.l1.1
    have tl2 : xtag gk (aL Z 4) = 18 := hPk.l2.1
    have tb0 : xtag gk b0 = 18 := v6.1
    have tb2 : xtag gk (b0 + 2) = 18 := v7.1
    have tb4 : xtag gk (b0 + 4) = 18 := v8.1
    have n10 := hP.wf.n10
    have r16 := hP.wf.r16
    have w12 := hP.wf.w12
    have lc := hP.lc
    have lr := hP.lr
    have lw := hP.lw
    have hru : k < rr → xtag gk ((aR Z).getD k 0) = 6 ∨ xtag gk ((aR Z).getD k 0) = 7 := fun h => (hPk.ru h).1
    refine xw_iload_n (pc := 124) dX2_init_2_124 0 rfl ?_
    refine xw_aload_n (pc := 125) dX2_init_2_125 2 rfl ?_
    refine xw_getS (b := (aL Z 2)) (pc := 126) fd_X2_20 dX2_init_2_126 (by first | assumption | (simp [-List.getD_eq_getElem?_getD, xE_setI, xsz_setI, xsl_setI, xtag_setI, xown_setI, xlen_setI, xE_setR, xsz_setR, xsl_setR, xtag_setR, xown_setR, xlen_setR, xE_setW, xsz_setW, xsl_setW, xtag_setW, xown_setW, xlen_setW, xi_setR, xi_setW, xr_setI, xr_setW, xww_setI, xww_setR, xi_setI, xr_setR, xww_setW, xE_new, xsz_new, xsl_new, w1, w2, w3, w4, v2, v3, v4, v5, xsub]; done) | (simp [-List.getD_eq_getElem?_getD, xE_setI, xsz_setI, xsl_setI, xtag_setI, xown_setI, xlen_setI, xE_setR, xsz_setR, xsl_setR, xtag_setR, xown_setR, xlen_setR, xE_setW, xsz_setW, xsl_setW, xtag_setW, xown_setW, xlen_setW, xi_setR, xi_setW, xr_setI, xr_setW, xww_setI, xww_setR, xi_setI, xr_setR, xww_setW, xE_new, xsz_new, xsl_new, w1, w2, w3, w4, v2, v3, v4, v5] <;> rfl)) (by simp [-List.getD_eq_getElem?_getD, xE_setI, xsz_setI, xsl_setI, xtag_setI, xown_setI, xlen_setI, xE_setR, xsz_setR, xsl_setR, xtag_setR, xown_setR, xlen_setR, xE_setW, xsz_setW, xsl_setW, xtag_setW, xown_setW, xlen_setW, xi_setR, xi_setW, xr_setI, xr_setW, xww_setI, xww_setR, xi_setI, xr_setR, xww_setW, xE_new, xsz_new, xsl_new, w1, w2, w3, w4, v2, v3, v4, v5]) ?_
    refine xw_callV (pc := 129) (xr_V (as := []) ok_J2_size rfl (by decide) q910 q702 q703 (by rw [tl1]; rfl) (by rw [tl1]; rfl) dX2_init_2_129 rfl rfl (Nat.le_of_ble_eq_true rfl)) (SP_J2_size hPk.l1) ?_
    refine xw_icmp_ge (pc := 132) 163 dX2_init_2_132 rfl (fun hb132 => ?_) (fun hb132 => ?_)
    · replace hb132 : (aR Z).length ≤ k := (nI_leI (a := (aR Z).length) (b := k) (by omega) (by omega)).mp hb132
      refine xw_iconst (v := nI 0) (pc := 163) dX2_init_2_163 rfl ?_
      refine xw_istore_n (l' := [(2, _), (0, _), (1, _)]) (pc := 164) dX2_init_2_164 rfl (by decide) rfl ?_
      exact lp3_X2_init_2 hP hq hpq (ww + 1) 0 gk C R W N (by omega) (by omega) (by rw [hW, List.take_zero]) hC (by omega) hX0 F (by omega)
    · replace hb132 : ¬ ((aR Z).length ≤ k) := mt (nI_leI (a := (aR Z).length) (b := k) (by omega) (by omega)).mpr hb132
      refine xw_aload_n (pc := 135) dX2_init_2_135 1 rfl ?_
      refine xw_getS (b := (b0 + 2)) (pc := 136) fd_X2_20 dX2_init_2_136 (by first | assumption | (simp [-List.getD_eq_getElem?_getD, xE_setI, xsz_setI, xsl_setI, xtag_setI, xown_setI, xlen_setI, xE_setR, xsz_setR, xsl_setR, xtag_setR, xown_setR, xlen_setR, xE_setW, xsz_setW, xsl_setW, xtag_setW, xown_setW, xlen_setW, xi_setR, xi_setW, xr_setI, xr_setW, xww_setI, xww_setR, xi_setI, xr_setR, xww_setW, xE_new, xsz_new, xsl_new, w1, w2, w3, w4, v2, v3, v4, v5, xsub]; done) | (simp [-List.getD_eq_getElem?_getD, xE_setI, xsz_setI, xsl_setI, xtag_setI, xown_setI, xlen_setI, xE_setR, xsz_setR, xsl_setR, xtag_setR, xown_setR, xlen_setR, xE_setW, xsz_setW, xsl_setW, xtag_setW, xown_setW, xlen_setW, xi_setR, xi_setW, xr_setI, xr_setW, xww_setI, xww_setR, xi_setI, xr_setR, xww_setW, xE_new, xsz_new, xsl_new, w1, w2, w3, w4, v2, v3, v4, v5] <;> rfl)) (by simp [-List.getD_eq_getElem?_getD, xE_setI, xsz_setI, xsl_setI, xtag_setI, xown_setI, xlen_setI, xE_setR, xsz_setR, xsl_setR, xtag_setR, xown_setR, xlen_setR, xE_setW, xsz_setW, xsl_setW, xtag_setW, xown_setW, xlen_setW, xi_setR, xi_setW, xr_setI, xr_setW, xww_setI, xww_setR, xi_setI, xr_setR, xww_setW, xE_new, xsz_new, xsl_new, w1, w2, w3, w4, v2, v3, v4, v5]) ?_
      refine xw_aload_n (pc := 139) dX2_init_2_139 2 rfl ?_
      refine xw_getS (b := (aL Z 2)) (pc := 140) fd_X2_20 dX2_init_2_140 (by first | assumption | (simp [-List.getD_eq_getElem?_getD, xE_setI, xsz_setI, xsl_setI, xtag_setI, xown_setI, xlen_setI, xE_setR, xsz_setR, xsl_setR, xtag_setR, xown_setR, xlen_setR, xE_setW, xsz_setW, xsl_setW, xtag_setW, xown_setW, xlen_setW, xi_setR, xi_setW, xr_setI, xr_setW, xww_setI, xww_setR, xi_setI, xr_setR, xww_setW, xE_new, xsz_new, xsl_new, w1, w2, w3, w4, v2, v3, v4, v5, xsub]; done) | (simp [-List.getD_eq_getElem?_getD, xE_setI, xsz_setI, xsl_setI, xtag_setI, xown_setI, xlen_setI, xE_setR, xsz_setR, xsl_setR, xtag_setR, xown_setR, xlen_setR, xE_setW, xsz_setW, xsl_setW, xtag_setW, xown_setW, xlen_setW, xi_setR, xi_setW, xr_setI, xr_setW, xww_setI, xww_setR, xi_setI, xr_setR, xww_setW, xE_new, xsz_new, xsl_new, w1, w2, w3, w4, v2, v3, v4, v5] <;> rfl)) (by simp [-List.getD_eq_getElem?_getD, xE_setI, xsz_setI, xsl_setI, xtag_setI, xown_setI, xlen_setI, xE_setR, xsz_setR, xsl_setR, xtag_setR, xown_setR, xlen_setR, xE_setW, xsz_setW, xsl_setW, xtag_setW, xown_setW, xlen_setW, xi_setR, xi_setW, xr_setI, xr_setW, xww_setI, xww_setR, xi_setI, xr_setR, xww_setW, xE_new, xsz_new, xsl_new, w1, w2, w3, w4, v2, v3, v4, v5]) ?_
      refine xw_iload_n (pc := 143) dX2_init_2_143 0 rfl ?_
      refine xw_callV (pc := 144) (xr_V (as := [_]) ok_J2_get rfl (by decide) q911 q706 q707 (by rw [tl1]; rfl) (by rw [tl1]; rfl) dX2_init_2_144 rfl rfl (Nat.le_of_ble_eq_true rfl)) (SP_J2_get hPk.l1 k (by omega)) ?_
      refine xw_chkR (pc := 147) dX2_init_2_147 q912 (by exact hru (by omega)) ?_
      have hRk := hPk.rp (r := k) (by omega)
      have hl4 : (aT Z k).length ≤ 4 := by
        have h := (hP.wf.ru (r := k) (by omega)).2.2.2.2.2.1.2
        have h2 := hRk.1.2.2.2.2.2.2.2.2.2.1.1
        omega
      refine xw_callF (pc := 150) (xr_rcopy (hru (by omega)) dX2_init_2_150 q913 (Nat.le_of_ble_eq_true rfl)) (SP_X7_copy (o1 := 1000 * q) (o2 := 1000 * q + 10 + k) hRk.1 hRk.2.2.2 (by omega) (by omega) (by omega) (by rw [hRk.2.1]; omega) (by omega) hl4) ?_
      intro g150 hc150 hm150
      obtain ⟨c1, c2, c3, F5⟩ := hc150
      have hlen : R.length = k := hR
      have al5 := v7.fr F5 (by unfold oEq; omega)
      have tb25 : xtag g150 (b0 + 2) = 18 := al5.1
      have hcap : 16 ≤ xlen g150 (b0 + 3) := by rw [F5.len (xlt (by rw [v7.2.2.2.2.1]; decide))]; exact v9.2.1
      have tb2 := tb25
      refine xw_callF (pc := 153) (xr_V (as := [_]) ok_J2_add rfl (by decide) q528 q529 q530 (by rw [tb2]; rfl) (by rw [tb2]; rfl) dX2_init_2_153 rfl rfl (Nat.le_of_ble_eq_true rfl)) (SP_J2_addF al5 (by omega) (xObj_R c1.1) (by rw [hlen]; omega)) ?_
      intro g153 hc153 hm153
      refine xw_pop (pc := 156) dX2_init_2_156 rfl ?_
      refine xw_iinc (v := nI (k + 1)) (l' := [(2, _), (0, _), (1, _)]) (pc := 157) dX2_init_2_157 0 rfl (nI_add _ 1) (by decide) rfl ?_
      refine xw_goto (pc := 160) 124 dX2_init_2_160 rfl ?_
      have F3 : xFr (fun o => o = 1000 * q + 10 + R.length ∨ o = 1000 * q + 2) 40 gk g153 := ((F5.sub (fun o h => by unfold oEq at h; omega) (Nat.le_refl _)).tr (hc153.2.sub (fun o h => Or.inr h) (Nat.le_refl _))).sub (fun _ h => h) (by omega)
      have hq9 : ∀ jj, jj < (aT Z k).length → xown g150 ((aT Z k).getD jj 0) = 2 := fun jj hjj => by
        have ht := hRk.1.2.2.2.2.2.2.2.2.2.1.2 jj hjj
        rw [F5.own (xlt (by omega))]
        exact hRk.2.2.2 jj hjj
      refine ih (k + 1) g153 C (R ++ [xsz gk]) W (N + 40) (by omega) (by omega) hW hC (by rw [List.length_append, hlen]; rfl) (hX0.stepR hq F3 hc153.1 (by omega) ?_) ((F.tr (F3.sub (fun o h => ?_) (Nat.le_refl _))).sub (fun _ h => h) (Nat.le_refl _)) (by omega)
      · rw [hlen]
        have FF := hc153.2
        have hb : xsz gk < xsz g150 := xlt (by have := c1.1; omega)
        have hta : xtag g150 (xsz gk + 2) = 108 := c1.2.2.2.2.2.2.2.2.1.2.2.2.2.1
        have hl : xsz gk + 2 < xsz g150 := xlt (by rw [hta]; decide)
        refine ⟨c1.fr hq9 FF (by rw [c2]; unfold oEq; omega) (by unfold oEq; omega) (by unfold oEq; omega), (FF.own hb).trans c2, by rw [FF.len hl]; exact c3, fun jj hjj => ?_⟩
        have ht := c1.2.2.2.2.2.2.2.2.2.1.2 jj hjj
        rw [FF.own (xlt (by omega))]
        exact hq9 jj hjj
      · rw [hlen] at h
        unfold oP
        omega
theorem lp1_X2_init_2 {d : Nat} {g : xG} {p q b0 n rr ww : Nat} {Z : xAd} {s : Nat → Int32} (hP : xPol g p Z s n rr ww) (hq : 0 < q) (hpq : p ≠ q) : ∀ (j k : Nat) (gk : xG) (C R W : List Nat) (N : Nat), n - k < j → k ≤ n → R = [] → W = [] → C.length = k → xCp gk q b0 s (aT Z) C R W → xFr (oP q) N g gk → N ≤ 100 + 10 * k → XW M_X2_init_2 (d + 8) 45 [(2, .int (nI k)), (0, .ref q), (1, .ref p)] [] gk (xVoid (fun g' => ∃ Z', xPol g' q Z' s n rr ww ∧ xFr (oP q) 1400 g g')) := by
  intro j
  induction j with
  | zero => intro k gk C R W N h; omega
  | succ j ih =>
    intro k gk C R W N hkj hk hR hW hC hX F hN
    have hPk := hP.fr F (fun o h1 h2 => by unfold oP at h1 h2; omega) (by unfold oP; omega)
    obtain ⟨v1, ⟨v2, v3, v4, v5, v6, v7, v8⟩, v9, v10, v11⟩ := hX
    have hX0 : xCp gk q b0 s (aT Z) C R W := ⟨v1, ⟨v2, v3, v4, v5, v6, v7, v8⟩, v9, v10, v11⟩
    have w1 := hPk.tag
    have w2 := hPk.f0
    have w3 := hPk.f1
    have w4 := hPk.f2
    have tl0 : xtag gk (aL Z 0) = 18 := hPk.l0.1
    have tl1 : xtag gk (aL Z 2) = 18 := hPk.l1.1
    have tl2 : xtag gk (aL Z 4) = 18 := hPk.l2.1
    have tb0 : xtag gk b0 = 18 := v6.1
    have tb2 : xtag gk (b0 + 2) = 18 := v7.1
    have tb4 : xtag gk (b0 + 4) = 18 := v8.1
    have n10 := hP.wf.n10
    have r16 := hP.wf.r16
    have w12 := hP.wf.w12
    have lc := hP.lc
    have lr := hP.lr
    have lw := hP.lw
    have hsk : k < n → xtag gk ((aC Z).getD k 0) = 3 := fun h => (hPk.sc k h).1
    have hlast : k ≤ n := hk
    by_cases hkn : k < n
    · have hs := hPk.sc k hkn
      have s1 : xtag gk ((aC Z).getD k 0) = 3 := hs.1
      have s4 : xr gk ((aC Z).getD k 0) 2 = effO gk (s (4 + 2 * k)) := hs.2.2.2
      by_cases h0 : k = 0
      · have s3 : xr gk ((aC Z).getD k 0) 0 = none := by have h := hs.2.2.1; rw [if_pos h0] at h; exact h
        have b1 : ∀ {c : Nat}, xtag gk c ≠ 0 → xc (xNew gk (xBlank 3 (1000 * q) 3) 3) c = xc gk c := fun h => xc_newN (Nat.ne_of_lt (xlt h))
        have m1 : xtag (xNew gk (xBlank 3 (1000 * q) 3) 3) ((aC Z).getD k 0) = 3 := (xtag_of (b1 (by rw [s1]; decide))).trans s1
        have m2 : xr (xNew gk (xBlank 3 (1000 * q) 3) 3) ((aC Z).getD k 0) 0 = xr gk ((aC Z).getD k 0) 0 := xr_of (b1 (by rw [s1]; decide)) 0
        have m3 : xr (xNew gk (xBlank 3 (1000 * q) 3) 3) ((aC Z).getD k 0) 2 = effO gk (s (4 + 2 * k)) := (xr_of (b1 (by rw [s1]; decide)) 2).trans s4
        have m4 : xtag (xNew gk (xBlank 3 (1000 * q) 3) 3) q = 2 := (xtag_of (b1 (by rw [v2]; decide))).trans v2
        have m5 : xr (xNew gk (xBlank 3 (1000 * q) 3) 3) q 0 = some b0 := (xr_of (b1 (by rw [v2]; decide)) 0).trans v3
        refine xw_iload_n (pc := 45) dX2_init_2_45 0 rfl ?_
        refine xw_aload_n (pc := 46) dX2_init_2_46 2 rfl ?_
        refine xw_getS (b := (aL Z 0)) (pc := 47) fd_X2_14 dX2_init_2_47 (by first | assumption | (simp [-List.getD_eq_getElem?_getD, xE_setI, xsz_setI, xsl_setI, xtag_setI, xown_setI, xlen_setI, xE_setR, xsz_setR, xsl_setR, xtag_setR, xown_setR, xlen_setR, xE_setW, xsz_setW, xsl_setW, xtag_setW, xown_setW, xlen_setW, xi_setR, xi_setW, xr_setI, xr_setW, xww_setI, xww_setR, xi_setI, xr_setR, xww_setW, xE_new, xsz_new, xsl_new, w1, w2, w3, w4, v2, v3, v4, v5, s1, s3, s4, m1, m2, m3, m4, m5, xsub]; done) | (simp [-List.getD_eq_getElem?_getD, xE_setI, xsz_setI, xsl_setI, xtag_setI, xown_setI, xlen_setI, xE_setR, xsz_setR, xsl_setR, xtag_setR, xown_setR, xlen_setR, xE_setW, xsz_setW, xsl_setW, xtag_setW, xown_setW, xlen_setW, xi_setR, xi_setW, xr_setI, xr_setW, xww_setI, xww_setR, xi_setI, xr_setR, xww_setW, xE_new, xsz_new, xsl_new, w1, w2, w3, w4, v2, v3, v4, v5, s1, s3, s4, m1, m2, m3, m4, m5] <;> rfl)) (by simp [-List.getD_eq_getElem?_getD, xE_setI, xsz_setI, xsl_setI, xtag_setI, xown_setI, xlen_setI, xE_setR, xsz_setR, xsl_setR, xtag_setR, xown_setR, xlen_setR, xE_setW, xsz_setW, xsl_setW, xtag_setW, xown_setW, xlen_setW, xi_setR, xi_setW, xr_setI, xr_setW, xww_setI, xww_setR, xi_setI, xr_setR, xww_setW, xE_new, xsz_new, xsl_new, w1, w2, w3, w4, v2, v3, v4, v5, s1, s3, s4, m1, m2, m3, m4, m5]) ?_
        refine xw_callV (pc := 50) (xr_V (as := []) ok_J2_size rfl (by decide) q910 q702 q703 (by rw [tl0]; rfl) (by rw [tl0]; rfl) dX2_init_2_50 rfl rfl (Nat.le_of_ble_eq_true rfl)) (SP_J2_size hPk.l0) ?_
        refine xw_icmp_ge (pc := 53) 122 dX2_init_2_53 rfl (fun hb53 => ?_) (fun hb53 => ?_)
        · replace hb53 : (aC Z).length ≤ k := (nI_leI (a := (aC Z).length) (b := k) (by omega) (by omega)).mp hb53
          refine xw_iconst (v := nI 0) (pc := 122) dX2_init_2_122 rfl ?_
          refine xw_istore_n (l' := [(2, _), (0, _), (1, _)]) (pc := 123) dX2_init_2_123 rfl (by decide) rfl ?_
          exact lp2_X2_init_2 hP hq hpq (rr + 1) 0 gk C R W N (by omega) (by omega) hW (by omega) (by rw [hR]; rfl) hX0 F (by omega)
        · replace hb53 : ¬ ((aC Z).length ≤ k) := mt (nI_leI (a := (aC Z).length) (b := k) (by omega) (by omega)).mpr hb53
          refine xw_aload_n (pc := 56) dX2_init_2_56 2 rfl ?_
          refine xw_getS (b := (aL Z 0)) (pc := 57) fd_X2_14 dX2_init_2_57 (by first | assumption | (simp [-List.getD_eq_getElem?_getD, xE_setI, xsz_setI, xsl_setI, xtag_setI, xown_setI, xlen_setI, xE_setR, xsz_setR, xsl_setR, xtag_setR, xown_setR, xlen_setR, xE_setW, xsz_setW, xsl_setW, xtag_setW, xown_setW, xlen_setW, xi_setR, xi_setW, xr_setI, xr_setW, xww_setI, xww_setR, xi_setI, xr_setR, xww_setW, xE_new, xsz_new, xsl_new, w1, w2, w3, w4, v2, v3, v4, v5, s1, s3, s4, m1, m2, m3, m4, m5, xsub]; done) | (simp [-List.getD_eq_getElem?_getD, xE_setI, xsz_setI, xsl_setI, xtag_setI, xown_setI, xlen_setI, xE_setR, xsz_setR, xsl_setR, xtag_setR, xown_setR, xlen_setR, xE_setW, xsz_setW, xsl_setW, xtag_setW, xown_setW, xlen_setW, xi_setR, xi_setW, xr_setI, xr_setW, xww_setI, xww_setR, xi_setI, xr_setR, xww_setW, xE_new, xsz_new, xsl_new, w1, w2, w3, w4, v2, v3, v4, v5, s1, s3, s4, m1, m2, m3, m4, m5] <;> rfl)) (by simp [-List.getD_eq_getElem?_getD, xE_setI, xsz_setI, xsl_setI, xtag_setI, xown_setI, xlen_setI, xE_setR, xsz_setR, xsl_setR, xtag_setR, xown_setR, xlen_setR, xE_setW, xsz_setW, xsl_setW, xtag_setW, xown_setW, xlen_setW, xi_setR, xi_setW, xr_setI, xr_setW, xww_setI, xww_setR, xi_setI, xr_setR, xww_setW, xE_new, xsz_new, xsl_new, w1, w2, w3, w4, v2, v3, v4, v5, s1, s3, s4, m1, m2, m3, m4, m5]) ?_
          refine xw_iload_n (pc := 60) dX2_init_2_60 0 rfl ?_
          refine xw_callV (pc := 61) (xr_V (as := [_]) ok_J2_get rfl (by decide) q911 q706 q707 (by rw [tl0]; rfl) (by rw [tl0]; rfl) dX2_init_2_61 rfl rfl (Nat.le_of_ble_eq_true rfl)) (SP_J2_get hPk.l0 k (by omega)) ?_
          refine xw_chkS (pc := 64) dX2_init_2_64 (by rw [hsk (by omega)]; exact q504) (by rw [hsk (by omega)]; rfl) ?_
          refine xw_astore_n (l' := [(3, _), (2, _), (0, _), (1, _)]) (pc := 67) dX2_init_2_67 rfl (by decide) rfl ?_
          refine xw_aload_n (pc := 68) dX2_init_2_68 2 rfl ?_
          refine xw_getS (b := b0) (pc := 69) fd_X2_14 dX2_init_2_69 (by first | assumption | (simp [-List.getD_eq_getElem?_getD, xE_setI, xsz_setI, xsl_setI, xtag_setI, xown_setI, xlen_setI, xE_setR, xsz_setR, xsl_setR, xtag_setR, xown_setR, xlen_setR, xE_setW, xsz_setW, xsl_setW, xtag_setW, xown_setW, xlen_setW, xi_setR, xi_setW, xr_setI, xr_setW, xww_setI, xww_setR, xi_setI, xr_setR, xww_setW, xE_new, xsz_new, xsl_new, w1, w2, w3, w4, v2, v3, v4, v5, s1, s3, s4, m1, m2, m3, m4, m5, xsub]; done) | (simp [-List.getD_eq_getElem?_getD, xE_setI, xsz_setI, xsl_setI, xtag_setI, xown_setI, xlen_setI, xE_setR, xsz_setR, xsl_setR, xtag_setR, xown_setR, xlen_setR, xE_setW, xsz_setW, xsl_setW, xtag_setW, xown_setW, xlen_setW, xi_setR, xi_setW, xr_setI, xr_setW, xww_setI, xww_setR, xi_setI, xr_setR, xww_setW, xE_new, xsz_new, xsl_new, w1, w2, w3, w4, v2, v3, v4, v5, s1, s3, s4, m1, m2, m3, m4, m5] <;> rfl)) (by simp [-List.getD_eq_getElem?_getD, xE_setI, xsz_setI, xsl_setI, xtag_setI, xown_setI, xlen_setI, xE_setR, xsz_setR, xsl_setR, xtag_setR, xown_setR, xlen_setR, xE_setW, xsz_setW, xsl_setW, xtag_setW, xown_setW, xlen_setW, xi_setR, xi_setW, xr_setI, xr_setW, xww_setI, xww_setR, xi_setI, xr_setR, xww_setW, xE_new, xsz_new, xsl_new, w1, w2, w3, w4, v2, v3, v4, v5, s1, s3, s4, m1, m2, m3, m4, m5]) ?_
          refine xw_new (t := 3) (pc := 72) (1000 * q) dX2_init_2_72 rfl (by decide) (by first | decide | assumption | omega) q504 q505 q113 ?_
          refine xw_at (a := (xsz gk)) (by rfl) ?_
          refine xw_dup (pc := 75) dX2_init_2_75 rfl ?_
          refine xw_aload_n (pc := 76) dX2_init_2_76 0 rfl ?_
          refine xw_getN (pc := 77) fd_X2_49 dX2_init_2_77 (by first | assumption | (simp [-List.getD_eq_getElem?_getD, xE_setI, xsz_setI, xsl_setI, xtag_setI, xown_setI, xlen_setI, xE_setR, xsz_setR, xsl_setR, xtag_setR, xown_setR, xlen_setR, xE_setW, xsz_setW, xsl_setW, xtag_setW, xown_setW, xlen_setW, xi_setR, xi_setW, xr_setI, xr_setW, xww_setI, xww_setR, xi_setI, xr_setR, xww_setW, xE_new, xsz_new, xsl_new, w1, w2, w3, w4, v2, v3, v4, v5, s1, s3, s4, m1, m2, m3, m4, m5, xsub]; done) | (simp [-List.getD_eq_getElem?_getD, xE_setI, xsz_setI, xsl_setI, xtag_setI, xown_setI, xlen_setI, xE_setR, xsz_setR, xsl_setR, xtag_setR, xown_setR, xlen_setR, xE_setW, xsz_setW, xsl_setW, xtag_setW, xown_setW, xlen_setW, xi_setR, xi_setW, xr_setI, xr_setW, xww_setI, xww_setR, xi_setI, xr_setR, xww_setW, xE_new, xsz_new, xsl_new, w1, w2, w3, w4, v2, v3, v4, v5, s1, s3, s4, m1, m2, m3, m4, m5] <;> rfl)) (by simp [-List.getD_eq_getElem?_getD, xE_setI, xsz_setI, xsl_setI, xtag_setI, xown_setI, xlen_setI, xE_setR, xsz_setR, xsl_setR, xtag_setR, xown_setR, xlen_setR, xE_setW, xsz_setW, xsl_setW, xtag_setW, xown_setW, xlen_setW, xi_setR, xi_setW, xr_setI, xr_setW, xww_setI, xww_setR, xi_setI, xr_setR, xww_setW, xE_new, xsz_new, xsl_new, w1, w2, w3, w4, v2, v3, v4, v5, s1, s3, s4, m1, m2, m3, m4, m5]) ?_
          refine xw_ifnonnullN (pc := 80) dX2_init_2_80 ?_
          refine xw_null (pc := 83) dX2_init_2_83 ?_
          refine xw_goto (pc := 84) 104 dX2_init_2_84 rfl ?_
          refine xw_iload_n (pc := 104) dX2_init_2_104 1 rfl ?_
          refine xw_aload_n (pc := 105) dX2_init_2_105 0 rfl ?_
          refine xw_getR (pc := 106) fd_X2_57 dX2_init_2_106 (by first | assumption | (simp [-List.getD_eq_getElem?_getD, xE_setI, xsz_setI, xsl_setI, xtag_setI, xown_setI, xlen_setI, xE_setR, xsz_setR, xsl_setR, xtag_setR, xown_setR, xlen_setR, xE_setW, xsz_setW, xsl_setW, xtag_setW, xown_setW, xlen_setW, xi_setR, xi_setW, xr_setI, xr_setW, xww_setI, xww_setR, xi_setI, xr_setR, xww_setW, xE_new, xsz_new, xsl_new, w1, w2, w3, w4, v2, v3, v4, v5, s1, s3, s4, m1, m2, m3, m4, m5, xsub]; done) | (simp [-List.getD_eq_getElem?_getD, xE_setI, xsz_setI, xsl_setI, xtag_setI, xown_setI, xlen_setI, xE_setR, xsz_setR, xsl_setR, xtag_setR, xown_setR, xlen_setR, xE_setW, xsz_setW, xsl_setW, xtag_setW, xown_setW, xlen_setW, xi_setR, xi_setW, xr_setI, xr_setW, xww_setI, xww_setR, xi_setI, xr_setR, xww_setW, xE_new, xsz_new, xsl_new, w1, w2, w3, w4, v2, v3, v4, v5, s1, s3, s4, m1, m2, m3, m4, m5] <;> rfl)) ?_
          rw [m3]
          refine xw_callU (pc := 109) (xr_I (as := [_, _, _]) ok_X3_init rfl (by decide) q508 q509 rfl rfl dX2_init_2_109 rfl rfl (Nat.le_of_ble_eq_true rfl)) (SP_X3_new (o := 1000 * q) (out := none) (own := effO gk (s (4 + 2 * k))) (by omega)) ?_
          have hN3 := xSN_a (g := gk) (o := 1000 * q) (out := none) (k := nI k) (own := effO gk (s (4 + 2 * k)))
          have F5 := xSN.fr (o := 1000 * q) (out := none) (k := nI k) (own := effO gk (s (4 + 2 * k))) (xFr.rf (O := oNo) (n := 0) (g := gk))
          have al5 := v6.fr F5 (fun h => h)
          have tb0 := al5.1
          have hR1 : C.length = k := hC
          have hcap : 10 ≤ xlen (xSN gk (1000 * q) (none) (nI k) (effO gk (s (4 + 2 * k)))) (b0 + 1) := by rw [F5.len (xlt (by rw [v6.2.2.2.2.1]; decide))]; exact v9.1
          refine xw_callF (pc := 112) (xr_V (as := [_]) ok_J2_add rfl (by decide) q528 q529 q530 (by rw [tb0]; rfl) (by rw [tb0]; rfl) dX2_init_2_112 rfl rfl (Nat.le_of_ble_eq_true rfl)) (SP_J2_addF al5 (by omega) (xObj_S hN3.1) (by rw [hR1]; omega)) ?_
          intro g112 hc112 hm112
          refine xw_pop (pc := 115) dX2_init_2_115 rfl ?_
          refine xw_iinc (v := nI (k + 1)) (l' := [(2, _), (3, _), (0, _), (1, _)]) (pc := 116) dX2_init_2_116 1 rfl (nI_add _ 1) (by decide) rfl ?_
          refine xw_goto (pc := 119) 45 dX2_init_2_119 rfl ?_
          refine xw_pick (pc := 45) (l' := [(2, _), (0, _), (1, _)]) [0, 2, 3] rfl ?_
          have F3 : xFr (oEq (1000 * q + 1)) 4 gk g112 := ((F5.sub (fun o h => h.elim) (Nat.le_refl _)).tr hc112.2).sub (fun _ h => h) (by omega)
          have hb : xsz gk < xsz (xSN gk (1000 * q) (none) (nI k) (effO gk (s (4 + 2 * k)))) := xlt (by rw [hN3.1]; decide)
          have hno : ¬ oEq (1000 * q + 1) (xown (xSN gk (1000 * q) (none) (nI k) (effO gk (s (4 + 2 * k)))) (xsz gk)) := by rw [hN3.2.1]; unfold oEq; omega
          refine ih (k + 1) g112 (C ++ [xsz gk]) R W (N + 4) (by omega) (by omega) hR hW (by rw [List.length_append, hC]; rfl) (hX0.stepC hq F3 hc112.1 hR hP.wf.o (by omega) ((hc112.2.tag hb).trans hN3.1) ((hc112.2.own hb).trans hN3.2.1) ?_ ?_ ?_) ((F.tr (F3.sub (fun o h => ?_) (Nat.le_refl _))).sub (fun _ h => h) (Nat.le_refl _)) (by omega)
          · rw [hc112.2.i' hb hno, hN3.2.2.2.1, hC]
          · rw [hc112.2.r' hb hno, hN3.2.2.1, hC]
            rw [if_pos h0]
          · rw [hc112.2.r' hb hno, hN3.2.2.2.2, hC]
          · unfold oEq at h
            unfold oP
            omega
      · have s3 : xr gk ((aC Z).getD k 0) 0 = some ((aC Z).getD (ou s k) 0) := by have h := hs.2.2.1; rw [if_neg h0] at h; exact h
        have hou := hP.wf.o.2 k (by omega) hkn
        have ho := hPk.sc (ou s k) (by omega)
        have p1 : xtag gk ((aC Z).getD (ou s k) 0) = 3 := ho.1
        have p2 : xi gk ((aC Z).getD (ou s k) 0) 1 = nI (ou s k) := ho.2.1
        have np := v10.1 (ou s k) (by omega)
        have np1 : xtag gk (C.getD (ou s k) 0) = 3 := np.1
        have g1 : xsub 3 (xtag (xNew gk (xBlank 3 (1000 * q) 3) 3) ((aC Z).getD k 0)) = true := by rw [xtag_new (xlt (by rw [s1]; decide)), s1]; rfl
        have g2 : xr (xNew gk (xBlank 3 (1000 * q) 3) 3) ((aC Z).getD k 0) 0 = some ((aC Z).getD (ou s k) 0) := by rw [xr_new (xlt (by rw [s1]; decide))]; exact s3
        have b1 : ∀ {c : Nat}, xtag gk c ≠ 0 → xc (xNew gk (xBlank 3 (1000 * q) 3) 3) c = xc gk c := fun h => xc_newN (Nat.ne_of_lt (xlt h))
        have m1 : xtag (xNew gk (xBlank 3 (1000 * q) 3) 3) ((aC Z).getD k 0) = 3 := (xtag_of (b1 (by rw [s1]; decide))).trans s1
        have m2 : xr (xNew gk (xBlank 3 (1000 * q) 3) 3) ((aC Z).getD k 0) 0 = xr gk ((aC Z).getD k 0) 0 := xr_of (b1 (by rw [s1]; decide)) 0
        have m3 : xr (xNew gk (xBlank 3 (1000 * q) 3) 3) ((aC Z).getD k 0) 2 = effO gk (s (4 + 2 * k)) := (xr_of (b1 (by rw [s1]; decide)) 2).trans s4
        have m4 : xtag (xNew gk (xBlank 3 (1000 * q) 3) 3) q = 2 := (xtag_of (b1 (by rw [v2]; decide))).trans v2
        have m5 : xr (xNew gk (xBlank 3 (1000 * q) 3) 3) q 0 = some b0 := (xr_of (b1 (by rw [v2]; decide)) 0).trans v3
        have m6 : xtag (xNew gk (xBlank 3 (1000 * q) 3) 3) ((aC Z).getD (ou s k) 0) = 3 := (xtag_of (b1 (by rw [p1]; decide))).trans p1
        have m7 : xi (xNew gk (xBlank 3 (1000 * q) 3) 3) ((aC Z).getD (ou s k) 0) 1 = nI (ou s k) := (xi_of (b1 (by rw [p1]; decide)) 1).trans p2
        have m8 : xAL (xNew gk (xBlank 3 (1000 * q) 3) 3) (1000 * q + 1) b0 (b0 + 1) C := v6.fr (xFr.rf (O := oNo) (n := 0)).nw (fun h => h)
        have m9 : xtag (xNew gk (xBlank 3 (1000 * q) 3) 3) (C.getD (ou s k) 0) = 3 := (xtag_of (b1 (by rw [np1]; decide))).trans np1
        have m10 : xtag (xNew gk (xBlank 3 (1000 * q) 3) 3) b0 = 18 := m8.1
        refine xw_iload_n (pc := 45) dX2_init_2_45 0 rfl ?_
        refine xw_aload_n (pc := 46) dX2_init_2_46 2 rfl ?_
        refine xw_getS (b := (aL Z 0)) (pc := 47) fd_X2_14 dX2_init_2_47 (by first | assumption | (simp [-List.getD_eq_getElem?_getD, xE_setI, xsz_setI, xsl_setI, xtag_setI, xown_setI, xlen_setI, xE_setR, xsz_setR, xsl_setR, xtag_setR, xown_setR, xlen_setR, xE_setW, xsz_setW, xsl_setW, xtag_setW, xown_setW, xlen_setW, xi_setR, xi_setW, xr_setI, xr_setW, xww_setI, xww_setR, xi_setI, xr_setR, xww_setW, xE_new, xsz_new, xsl_new, w1, w2, w3, w4, v2, v3, v4, v5, s1, s3, s4, m1, m2, m3, m4, m5, m6, m7, xsub]; done) | (simp [-List.getD_eq_getElem?_getD, xE_setI, xsz_setI, xsl_setI, xtag_setI, xown_setI, xlen_setI, xE_setR, xsz_setR, xsl_setR, xtag_setR, xown_setR, xlen_setR, xE_setW, xsz_setW, xsl_setW, xtag_setW, xown_setW, xlen_setW, xi_setR, xi_setW, xr_setI, xr_setW, xww_setI, xww_setR, xi_setI, xr_setR, xww_setW, xE_new, xsz_new, xsl_new, w1, w2, w3, w4, v2, v3, v4, v5, s1, s3, s4, m1, m2, m3, m4, m5, m6, m7] <;> rfl)) (by simp [-List.getD_eq_getElem?_getD, xE_setI, xsz_setI, xsl_setI, xtag_setI, xown_setI, xlen_setI, xE_setR, xsz_setR, xsl_setR, xtag_setR, xown_setR, xlen_setR, xE_setW, xsz_setW, xsl_setW, xtag_setW, xown_setW, xlen_setW, xi_setR, xi_setW, xr_setI, xr_setW, xww_setI, xww_setR, xi_setI, xr_setR, xww_setW, xE_new, xsz_new, xsl_new, w1, w2, w3, w4, v2, v3, v4, v5, s1, s3, s4, m1, m2, m3, m4, m5, m6, m7]) ?_
        refine xw_callV (pc := 50) (xr_V (as := []) ok_J2_size rfl (by decide) q910 q702 q703 (by rw [tl0]; rfl) (by rw [tl0]; rfl) dX2_init_2_50 rfl rfl (Nat.le_of_ble_eq_true rfl)) (SP_J2_size hPk.l0) ?_
        refine xw_icmp_ge (pc := 53) 122 dX2_init_2_53 rfl (fun hb53 => ?_) (fun hb53 => ?_)
        · replace hb53 : (aC Z).length ≤ k := (nI_leI (a := (aC Z).length) (b := k) (by omega) (by omega)).mp hb53
          refine xw_iconst (v := nI 0) (pc := 122) dX2_init_2_122 rfl ?_
          refine xw_istore_n (l' := [(2, _), (0, _), (1, _)]) (pc := 123) dX2_init_2_123 rfl (by decide) rfl ?_
          exact lp2_X2_init_2 hP hq hpq (rr + 1) 0 gk C R W N (by omega) (by omega) hW (by omega) (by rw [hR]; rfl) hX0 F (by omega)
        · replace hb53 : ¬ ((aC Z).length ≤ k) := mt (nI_leI (a := (aC Z).length) (b := k) (by omega) (by omega)).mpr hb53
          refine xw_aload_n (pc := 56) dX2_init_2_56 2 rfl ?_
          refine xw_getS (b := (aL Z 0)) (pc := 57) fd_X2_14 dX2_init_2_57 (by first | assumption | (simp [-List.getD_eq_getElem?_getD, xE_setI, xsz_setI, xsl_setI, xtag_setI, xown_setI, xlen_setI, xE_setR, xsz_setR, xsl_setR, xtag_setR, xown_setR, xlen_setR, xE_setW, xsz_setW, xsl_setW, xtag_setW, xown_setW, xlen_setW, xi_setR, xi_setW, xr_setI, xr_setW, xww_setI, xww_setR, xi_setI, xr_setR, xww_setW, xE_new, xsz_new, xsl_new, w1, w2, w3, w4, v2, v3, v4, v5, s1, s3, s4, m1, m2, m3, m4, m5, m6, m7, xsub]; done) | (simp [-List.getD_eq_getElem?_getD, xE_setI, xsz_setI, xsl_setI, xtag_setI, xown_setI, xlen_setI, xE_setR, xsz_setR, xsl_setR, xtag_setR, xown_setR, xlen_setR, xE_setW, xsz_setW, xsl_setW, xtag_setW, xown_setW, xlen_setW, xi_setR, xi_setW, xr_setI, xr_setW, xww_setI, xww_setR, xi_setI, xr_setR, xww_setW, xE_new, xsz_new, xsl_new, w1, w2, w3, w4, v2, v3, v4, v5, s1, s3, s4, m1, m2, m3, m4, m5, m6, m7] <;> rfl)) (by simp [-List.getD_eq_getElem?_getD, xE_setI, xsz_setI, xsl_setI, xtag_setI, xown_setI, xlen_setI, xE_setR, xsz_setR, xsl_setR, xtag_setR, xown_setR, xlen_setR, xE_setW, xsz_setW, xsl_setW, xtag_setW, xown_setW, xlen_setW, xi_setR, xi_setW, xr_setI, xr_setW, xww_setI, xww_setR, xi_setI, xr_setR, xww_setW, xE_new, xsz_new, xsl_new, w1, w2, w3, w4, v2, v3, v4, v5, s1, s3, s4, m1, m2, m3, m4, m5, m6, m7]) ?_
          refine xw_iload_n (pc := 60) dX2_init_2_60 0 rfl ?_
          refine xw_callV (pc := 61) (xr_V (as := [_]) ok_J2_get rfl (by decide) q911 q706 q707 (by rw [tl0]; rfl) (by rw [tl0]; rfl) dX2_init_2_61 rfl rfl (Nat.le_of_ble_eq_true rfl)) (SP_J2_get hPk.l0 k (by omega)) ?_
          refine xw_chkS (pc := 64) dX2_init_2_64 (by rw [hsk (by omega)]; exact q504) (by rw [hsk (by omega)]; rfl) ?_
          refine xw_astore_n (l' := [(3, _), (2, _), (0, _), (1, _)]) (pc := 67) dX2_init_2_67 rfl (by decide) rfl ?_
          refine xw_aload_n (pc := 68) dX2_init_2_68 2 rfl ?_
          refine xw_getS (b := b0) (pc := 69) fd_X2_14 dX2_init_2_69 (by first | assumption | (simp [-List.getD_eq_getElem?_getD, xE_setI, xsz_setI, xsl_setI, xtag_setI, xown_setI, xlen_setI, xE_setR, xsz_setR, xsl_setR, xtag_setR, xown_setR, xlen_setR, xE_setW, xsz_setW, xsl_setW, xtag_setW, xown_setW, xlen_setW, xi_setR, xi_setW, xr_setI, xr_setW, xww_setI, xww_setR, xi_setI, xr_setR, xww_setW, xE_new, xsz_new, xsl_new, w1, w2, w3, w4, v2, v3, v4, v5, s1, s3, s4, m1, m2, m3, m4, m5, m6, m7, xsub]; done) | (simp [-List.getD_eq_getElem?_getD, xE_setI, xsz_setI, xsl_setI, xtag_setI, xown_setI, xlen_setI, xE_setR, xsz_setR, xsl_setR, xtag_setR, xown_setR, xlen_setR, xE_setW, xsz_setW, xsl_setW, xtag_setW, xown_setW, xlen_setW, xi_setR, xi_setW, xr_setI, xr_setW, xww_setI, xww_setR, xi_setI, xr_setR, xww_setW, xE_new, xsz_new, xsl_new, w1, w2, w3, w4, v2, v3, v4, v5, s1, s3, s4, m1, m2, m3, m4, m5, m6, m7] <;> rfl)) (by simp [-List.getD_eq_getElem?_getD, xE_setI, xsz_setI, xsl_setI, xtag_setI, xown_setI, xlen_setI, xE_setR, xsz_setR, xsl_setR, xtag_setR, xown_setR, xlen_setR, xE_setW, xsz_setW, xsl_setW, xtag_setW, xown_setW, xlen_setW, xi_setR, xi_setW, xr_setI, xr_setW, xww_setI, xww_setR, xi_setI, xr_setR, xww_setW, xE_new, xsz_new, xsl_new, w1, w2, w3, w4, v2, v3, v4, v5, s1, s3, s4, m1, m2, m3, m4, m5, m6, m7]) ?_
          refine xw_new (t := 3) (pc := 72) (1000 * q) dX2_init_2_72 rfl (by decide) (by first | decide | assumption | omega) q504 q505 q113 ?_
          refine xw_at (a := (xsz gk)) (by rfl) ?_
          refine xw_dup (pc := 75) dX2_init_2_75 rfl ?_
          refine xw_aload_n (pc := 76) dX2_init_2_76 0 rfl ?_
          refine xw_getS (b := ((aC Z).getD (ou s k) 0)) (pc := 77) fd_X2_49 dX2_init_2_77 (by first | assumption | (simp [-List.getD_eq_getElem?_getD, xE_setI, xsz_setI, xsl_setI, xtag_setI, xown_setI, xlen_setI, xE_setR, xsz_setR, xsl_setR, xtag_setR, xown_setR, xlen_setR, xE_setW, xsz_setW, xsl_setW, xtag_setW, xown_setW, xlen_setW, xi_setR, xi_setW, xr_setI, xr_setW, xww_setI, xww_setR, xi_setI, xr_setR, xww_setW, xE_new, xsz_new, xsl_new, w1, w2, w3, w4, v2, v3, v4, v5, s1, s3, s4, m1, m2, m3, m4, m5, m6, m7, xsub]; done) | (simp [-List.getD_eq_getElem?_getD, xE_setI, xsz_setI, xsl_setI, xtag_setI, xown_setI, xlen_setI, xE_setR, xsz_setR, xsl_setR, xtag_setR, xown_setR, xlen_setR, xE_setW, xsz_setW, xsl_setW, xtag_setW, xown_setW, xlen_setW, xi_setR, xi_setW, xr_setI, xr_setW, xww_setI, xww_setR, xi_setI, xr_setR, xww_setW, xE_new, xsz_new, xsl_new, w1, w2, w3, w4, v2, v3, v4, v5, s1, s3, s4, m1, m2, m3, m4, m5, m6, m7] <;> rfl)) (by simp [-List.getD_eq_getElem?_getD, xE_setI, xsz_setI, xsl_setI, xtag_setI, xown_setI, xlen_setI, xE_setR, xsz_setR, xsl_setR, xtag_setR, xown_setR, xlen_setR, xE_setW, xsz_setW, xsl_setW, xtag_setW, xown_setW, xlen_setW, xi_setR, xi_setW, xr_setI, xr_setW, xww_setI, xww_setR, xi_setI, xr_setR, xww_setW, xE_new, xsz_new, xsl_new, w1, w2, w3, w4, v2, v3, v4, v5, s1, s3, s4, m1, m2, m3, m4, m5, m6, m7]) ?_
          refine xw_ifnonnull (pc := 80) 87 dX2_init_2_80 rfl ?_
          refine xw_aload_n (pc := 87) dX2_init_2_87 2 rfl ?_
          refine xw_getS (b := b0) (pc := 88) fd_X2_14 dX2_init_2_88 (by first | assumption | (simp [-List.getD_eq_getElem?_getD, xE_setI, xsz_setI, xsl_setI, xtag_setI, xown_setI, xlen_setI, xE_setR, xsz_setR, xsl_setR, xtag_setR, xown_setR, xlen_setR, xE_setW, xsz_setW, xsl_setW, xtag_setW, xown_setW, xlen_setW, xi_setR, xi_setW, xr_setI, xr_setW, xww_setI, xww_setR, xi_setI, xr_setR, xww_setW, xE_new, xsz_new, xsl_new, w1, w2, w3, w4, v2, v3, v4, v5, s1, s3, s4, m1, m2, m3, m4, m5, m6, m7, xsub]; done) | (simp [-List.getD_eq_getElem?_getD, xE_setI, xsz_setI, xsl_setI, xtag_setI, xown_setI, xlen_setI, xE_setR, xsz_setR, xsl_setR, xtag_setR, xown_setR, xlen_setR, xE_setW, xsz_setW, xsl_setW, xtag_setW, xown_setW, xlen_setW, xi_setR, xi_setW, xr_setI, xr_setW, xww_setI, xww_setR, xi_setI, xr_setR, xww_setW, xE_new, xsz_new, xsl_new, w1, w2, w3, w4, v2, v3, v4, v5, s1, s3, s4, m1, m2, m3, m4, m5, m6, m7] <;> rfl)) (by simp [-List.getD_eq_getElem?_getD, xE_setI, xsz_setI, xsl_setI, xtag_setI, xown_setI, xlen_setI, xE_setR, xsz_setR, xsl_setR, xtag_setR, xown_setR, xlen_setR, xE_setW, xsz_setW, xsl_setW, xtag_setW, xown_setW, xlen_setW, xi_setR, xi_setW, xr_setI, xr_setW, xww_setI, xww_setR, xi_setI, xr_setR, xww_setW, xE_new, xsz_new, xsl_new, w1, w2, w3, w4, v2, v3, v4, v5, s1, s3, s4, m1, m2, m3, m4, m5, m6, m7]) ?_
          refine xw_aload_n (pc := 91) dX2_init_2_91 0 rfl ?_
          refine xw_getS (b := ((aC Z).getD (ou s k) 0)) (pc := 92) fd_X2_49 dX2_init_2_92 (by first | assumption | (simp [-List.getD_eq_getElem?_getD, xE_setI, xsz_setI, xsl_setI, xtag_setI, xown_setI, xlen_setI, xE_setR, xsz_setR, xsl_setR, xtag_setR, xown_setR, xlen_setR, xE_setW, xsz_setW, xsl_setW, xtag_setW, xown_setW, xlen_setW, xi_setR, xi_setW, xr_setI, xr_setW, xww_setI, xww_setR, xi_setI, xr_setR, xww_setW, xE_new, xsz_new, xsl_new, w1, w2, w3, w4, v2, v3, v4, v5, s1, s3, s4, m1, m2, m3, m4, m5, m6, m7, xsub]; done) | (simp [-List.getD_eq_getElem?_getD, xE_setI, xsz_setI, xsl_setI, xtag_setI, xown_setI, xlen_setI, xE_setR, xsz_setR, xsl_setR, xtag_setR, xown_setR, xlen_setR, xE_setW, xsz_setW, xsl_setW, xtag_setW, xown_setW, xlen_setW, xi_setR, xi_setW, xr_setI, xr_setW, xww_setI, xww_setR, xi_setI, xr_setR, xww_setW, xE_new, xsz_new, xsl_new, w1, w2, w3, w4, v2, v3, v4, v5, s1, s3, s4, m1, m2, m3, m4, m5, m6, m7] <;> rfl)) (by simp [-List.getD_eq_getElem?_getD, xE_setI, xsz_setI, xsl_setI, xtag_setI, xown_setI, xlen_setI, xE_setR, xsz_setR, xsl_setR, xtag_setR, xown_setR, xlen_setR, xE_setW, xsz_setW, xsl_setW, xtag_setW, xown_setW, xlen_setW, xi_setR, xi_setW, xr_setI, xr_setW, xww_setI, xww_setR, xi_setI, xr_setR, xww_setW, xE_new, xsz_new, xsl_new, w1, w2, w3, w4, v2, v3, v4, v5, s1, s3, s4, m1, m2, m3, m4, m5, m6, m7]) ?_
          refine xw_getNat (k := (ou s k)) (pc := 95) fd_X2_53 dX2_init_2_95 (by first | assumption | (simp [-List.getD_eq_getElem?_getD, xE_setI, xsz_setI, xsl_setI, xtag_setI, xown_setI, xlen_setI, xE_setR, xsz_setR, xsl_setR, xtag_setR, xown_setR, xlen_setR, xE_setW, xsz_setW, xsl_setW, xtag_setW, xown_setW, xlen_setW, xi_setR, xi_setW, xr_setI, xr_setW, xww_setI, xww_setR, xi_setI, xr_setR, xww_setW, xE_new, xsz_new, xsl_new, w1, w2, w3, w4, v2, v3, v4, v5, s1, s3, s4, m1, m2, m3, m4, m5, m6, m7, xsub]; done) | (simp [-List.getD_eq_getElem?_getD, xE_setI, xsz_setI, xsl_setI, xtag_setI, xown_setI, xlen_setI, xE_setR, xsz_setR, xsl_setR, xtag_setR, xown_setR, xlen_setR, xE_setW, xsz_setW, xsl_setW, xtag_setW, xown_setW, xlen_setW, xi_setR, xi_setW, xr_setI, xr_setW, xww_setI, xww_setR, xi_setI, xr_setR, xww_setW, xE_new, xsz_new, xsl_new, w1, w2, w3, w4, v2, v3, v4, v5, s1, s3, s4, m1, m2, m3, m4, m5, m6, m7] <;> rfl)) (by simp [-List.getD_eq_getElem?_getD, xE_setI, xsz_setI, xsl_setI, xtag_setI, xown_setI, xlen_setI, xE_setR, xsz_setR, xsl_setR, xtag_setR, xown_setR, xlen_setR, xE_setW, xsz_setW, xsl_setW, xtag_setW, xown_setW, xlen_setW, xi_setR, xi_setW, xr_setI, xr_setW, xww_setI, xww_setR, xi_setI, xr_setR, xww_setW, xE_new, xsz_new, xsl_new, w1, w2, w3, w4, v2, v3, v4, v5, s1, s3, s4, m1, m2, m3, m4, m5, m6, m7]) ?_
          refine xw_callV (pc := 98) (xr_V (as := [_]) ok_J2_get rfl (by decide) q911 q706 q707 (by first | (rw [tb0]; rfl) | (rw [m10]; rfl)) (by first | (rw [tb0]; rfl) | (rw [m10]; rfl)) dX2_init_2_98 rfl rfl (Nat.le_of_ble_eq_true rfl)) (SP_J2_get m8 (ou s k) (by omega)) ?_
          refine xw_chkS (pc := 101) dX2_init_2_101 (by rw [m9]; exact q504) (by rw [m9]; rfl) ?_
          refine xw_iload_n (pc := 104) dX2_init_2_104 1 rfl ?_
          refine xw_aload_n (pc := 105) dX2_init_2_105 0 rfl ?_
          refine xw_getR (pc := 106) fd_X2_57 dX2_init_2_106 (by first | assumption | (simp [-List.getD_eq_getElem?_getD, xE_setI, xsz_setI, xsl_setI, xtag_setI, xown_setI, xlen_setI, xE_setR, xsz_setR, xsl_setR, xtag_setR, xown_setR, xlen_setR, xE_setW, xsz_setW, xsl_setW, xtag_setW, xown_setW, xlen_setW, xi_setR, xi_setW, xr_setI, xr_setW, xww_setI, xww_setR, xi_setI, xr_setR, xww_setW, xE_new, xsz_new, xsl_new, w1, w2, w3, w4, v2, v3, v4, v5, s1, s3, s4, m1, m2, m3, m4, m5, m6, m7, xsub]; done) | (simp [-List.getD_eq_getElem?_getD, xE_setI, xsz_setI, xsl_setI, xtag_setI, xown_setI, xlen_setI, xE_setR, xsz_setR, xsl_setR, xtag_setR, xown_setR, xlen_setR, xE_setW, xsz_setW, xsl_setW, xtag_setW, xown_setW, xlen_setW, xi_setR, xi_setW, xr_setI, xr_setW, xww_setI, xww_setR, xi_setI, xr_setR, xww_setW, xE_new, xsz_new, xsl_new, w1, w2, w3, w4, v2, v3, v4, v5, s1, s3, s4, m1, m2, m3, m4, m5, m6, m7] <;> rfl)) ?_
          rw [m3]
          refine xw_callU (pc := 109) (xr_I (as := [_, _, _]) ok_X3_init rfl (by decide) q508 q509 rfl rfl dX2_init_2_109 rfl rfl (Nat.le_of_ble_eq_true rfl)) (SP_X3_new (o := 1000 * q) (out := some (C.getD (ou s k) 0)) (own := effO gk (s (4 + 2 * k))) (by omega)) ?_
          have hN3 := xSN_a (g := gk) (o := 1000 * q) (out := some (C.getD (ou s k) 0)) (k := nI k) (own := effO gk (s (4 + 2 * k)))
          have F5 := xSN.fr (o := 1000 * q) (out := some (C.getD (ou s k) 0)) (k := nI k) (own := effO gk (s (4 + 2 * k))) (xFr.rf (O := oNo) (n := 0) (g := gk))
          have al5 := v6.fr F5 (fun h => h)
          have tb0 := al5.1
          have hR1 : C.length = k := hC
          have hcap : 10 ≤ xlen (xSN gk (1000 * q) (some (C.getD (ou s k) 0)) (nI k) (effO gk (s (4 + 2 * k)))) (b0 + 1) := by rw [F5.len (xlt (by rw [v6.2.2.2.2.1]; decide))]; exact v9.1
          refine xw_callF (pc := 112) (xr_V (as := [_]) ok_J2_add rfl (by decide) q528 q529 q530 (by first | (rw [tb0]; rfl) | (rw [m10]; rfl)) (by first | (rw [tb0]; rfl) | (rw [m10]; rfl)) dX2_init_2_112 rfl rfl (Nat.le_of_ble_eq_true rfl)) (SP_J2_addF al5 (by omega) (xObj_S hN3.1) (by rw [hR1]; omega)) ?_
          intro g112 hc112 hm112
          refine xw_pop (pc := 115) dX2_init_2_115 rfl ?_
          refine xw_iinc (v := nI (k + 1)) (l' := [(2, _), (3, _), (0, _), (1, _)]) (pc := 116) dX2_init_2_116 1 rfl (nI_add _ 1) (by decide) rfl ?_
          refine xw_goto (pc := 119) 45 dX2_init_2_119 rfl ?_
          refine xw_pick (pc := 45) (l' := [(2, _), (0, _), (1, _)]) [0, 2, 3] rfl ?_
          have F3 : xFr (oEq (1000 * q + 1)) 4 gk g112 := ((F5.sub (fun o h => h.elim) (Nat.le_refl _)).tr hc112.2).sub (fun _ h => h) (by omega)
          have hb : xsz gk < xsz (xSN gk (1000 * q) (some (C.getD (ou s k) 0)) (nI k) (effO gk (s (4 + 2 * k)))) := xlt (by rw [hN3.1]; decide)
          have hno : ¬ oEq (1000 * q + 1) (xown (xSN gk (1000 * q) (some (C.getD (ou s k) 0)) (nI k) (effO gk (s (4 + 2 * k)))) (xsz gk)) := by rw [hN3.2.1]; unfold oEq; omega
          refine ih (k + 1) g112 (C ++ [xsz gk]) R W (N + 4) (by omega) (by omega) hR hW (by rw [List.length_append, hC]; rfl) (hX0.stepC hq F3 hc112.1 hR hP.wf.o (by omega) ((hc112.2.tag hb).trans hN3.1) ((hc112.2.own hb).trans hN3.2.1) ?_ ?_ ?_) ((F.tr (F3.sub (fun o h => ?_) (Nat.le_refl _))).sub (fun _ h => h) (Nat.le_refl _)) (by omega)
          · rw [hc112.2.i' hb hno, hN3.2.2.2.1, hC]
          · rw [hc112.2.r' hb hno, hN3.2.2.1, hC]
            rw [if_neg h0]
          · rw [hc112.2.r' hb hno, hN3.2.2.2.2, hC]
          · unfold oEq at h
            unfold oP
            omega
    · have ek : k = n := by omega
      refine xw_iload_n (pc := 45) dX2_init_2_45 0 rfl ?_
      refine xw_aload_n (pc := 46) dX2_init_2_46 2 rfl ?_
      refine xw_getS (b := (aL Z 0)) (pc := 47) fd_X2_14 dX2_init_2_47 (by first | assumption | (simp [-List.getD_eq_getElem?_getD, xE_setI, xsz_setI, xsl_setI, xtag_setI, xown_setI, xlen_setI, xE_setR, xsz_setR, xsl_setR, xtag_setR, xown_setR, xlen_setR, xE_setW, xsz_setW, xsl_setW, xtag_setW, xown_setW, xlen_setW, xi_setR, xi_setW, xr_setI, xr_setW, xww_setI, xww_setR, xi_setI, xr_setR, xww_setW, xE_new, xsz_new, xsl_new, w1, w2, w3, w4, v2, v3, v4, v5, xsub]; done) | (simp [-List.getD_eq_getElem?_getD, xE_setI, xsz_setI, xsl_setI, xtag_setI, xown_setI, xlen_setI, xE_setR, xsz_setR, xsl_setR, xtag_setR, xown_setR, xlen_setR, xE_setW, xsz_setW, xsl_setW, xtag_setW, xown_setW, xlen_setW, xi_setR, xi_setW, xr_setI, xr_setW, xww_setI, xww_setR, xi_setI, xr_setR, xww_setW, xE_new, xsz_new, xsl_new, w1, w2, w3, w4, v2, v3, v4, v5] <;> rfl)) (by simp [-List.getD_eq_getElem?_getD, xE_setI, xsz_setI, xsl_setI, xtag_setI, xown_setI, xlen_setI, xE_setR, xsz_setR, xsl_setR, xtag_setR, xown_setR, xlen_setR, xE_setW, xsz_setW, xsl_setW, xtag_setW, xown_setW, xlen_setW, xi_setR, xi_setW, xr_setI, xr_setW, xww_setI, xww_setR, xi_setI, xr_setR, xww_setW, xE_new, xsz_new, xsl_new, w1, w2, w3, w4, v2, v3, v4, v5]) ?_
      refine xw_callV (pc := 50) (xr_V (as := []) ok_J2_size rfl (by decide) q910 q702 q703 (by rw [tl0]; rfl) (by rw [tl0]; rfl) dX2_init_2_50 rfl rfl (Nat.le_of_ble_eq_true rfl)) (SP_J2_size hPk.l0) ?_
      refine xw_icmp_ge (pc := 53) 122 dX2_init_2_53 rfl (fun hb53 => ?_) (fun hb53 => ?_)
      rotate_left
      · exfalso
        replace hb53 : ¬ ((aC Z).length ≤ k) := mt (nI_leI (a := (aC Z).length) (b := k) (by omega) (by omega)).mpr hb53
        omega
      replace hb53 : (aC Z).length ≤ k := (nI_leI (a := (aC Z).length) (b := k) (by omega) (by omega)).mp hb53
      refine xw_iconst (v := nI 0) (pc := 122) dX2_init_2_122 rfl ?_
      refine xw_istore_n (l' := [(2, _), (0, _), (1, _)]) (pc := 123) dX2_init_2_123 rfl (by decide) rfl ?_
      exact lp2_X2_init_2 hP hq hpq (rr + 1) 0 gk C R W N (by omega) (by omega) hW (by omega) (by rw [hR]; rfl) hX0 F (by omega)
theorem SP_X2_init_2 {d : Nat} {g : xG} {p q n rr ww : Nat} {Z : xAd} {s : Nat → Int32} (hP : xPol g p Z s n rr ww) (hq : 0 < q) (hpq : p ≠ q) (ht : xtag g q = 2) (ho : xown g q = 1000 * q) : XM M_X2_init_2 (d + 8) [.ref q, .ref p] g (xVoid (fun g' => ∃ Z', xPol g' q Z' s n rr ww ∧ xFr (oP q) 1400 g g')) := by
  have hlq : q < xsz g := xlt (by rw [ht]; decide)
  have f1 := xLN_c (g := g) (o := 1000 * q + 1) (n := 10) hlq
  have t1 : xtag (xLN g (1000 * q + 1) 10) q = 2 := (xtag_of f1).trans ht
  have o1 : xown (xLN g (1000 * q + 1) 10) q ≠ 0 := by rw [xown_of f1, ho]; omega
  have f2 := xLN_c (g := (xsetR (xLN g (1000 * q + 1) 10) q 0 (some (xsz g)))) (o := 1000 * q + 2) (n := 16) (c := q) (by show q < xsz g + 2; omega)
  have t2 : xtag (xLN (xsetR (xLN g (1000 * q + 1) 10) q 0 (some (xsz g))) (1000 * q + 2) 16) q = 2 := by rw [xtag_of f2, xtag_setR]; exact t1
  have o2 : xown (xLN (xsetR (xLN g (1000 * q + 1) 10) q 0 (some (xsz g))) (1000 * q + 2) 16) q ≠ 0 := by rw [xown_of f2, xown_setR]; exact o1
  have f3 := xLN_c (g := (xsetR (xLN (xsetR (xLN g (1000 * q + 1) 10) q 0 (some (xsz g))) (1000 * q + 2) 16) q 1 (some (xsz g + 2)))) (o := 1000 * q + 3) (n := 12) (c := q) (by show q < xsz g + 2 + 2; omega)
  have t3 : xtag (xLN (xsetR (xLN (xsetR (xLN g (1000 * q + 1) 10) q 0 (some (xsz g))) (1000 * q + 2) 16) q 1 (some (xsz g + 2))) (1000 * q + 3) 12) q = 2 := by rw [xtag_of f3, xtag_setR]; exact t2
  have o3 : xown (xLN (xsetR (xLN (xsetR (xLN g (1000 * q + 1) 10) q 0 (some (xsz g))) (1000 * q + 2) 16) q 1 (some (xsz g + 2))) (1000 * q + 3) 12) q ≠ 0 := by rw [xown_of f3, xown_setR]; exact o2
  refine xm_of (by decide +kernel) (Nat.le_of_ble_eq_true rfl) ?_
  show XW _ _ 0 [(0, _), (1, _)] [] _ _
  refine xw_aload_n (pc := 0) dX2_init_2_0 0 rfl ?_
  refine xw_objInit (pc := 1) dX2_init_2_1 q156 (Nat.le_of_ble_eq_true rfl) ?_
  refine xw_aload_n (pc := 4) dX2_init_2_4 0 rfl ?_
  refine xw_new (t := 18) (pc := 5) (1000 * q + 1) dX2_init_2_5 rfl (by decide) (by first | decide | assumption | omega) q157 q158 q96 ?_
  refine xw_at (a := (xsz g)) (by rfl) ?_
  refine xw_dup (pc := 8) dX2_init_2_8 rfl ?_
  refine xw_bipush (v := nI 10) (pc := 9) dX2_init_2_9 (by decide +kernel) ?_
  refine xw_callU (pc := 11) (xr_I (as := [_]) ok_J2_init rfl (by decide) q159 q160 rfl rfl dX2_init_2_11 rfl rfl (Nat.le_of_ble_eq_true rfl)) ((show XM M_J2_init (d + 7) [.ref (xsz g), .int (nI 10)] (xNew g (xBlank 18 (1000 * q + 1) 3) 3) (xOne none (xLN g (1000 * q + 1) 10)) from SP_J2_initX (d := d + 4) (by rw [xtag_newS rfl]; rfl) (by rw [xown_newS rfl]; rfl) (by decide) (by decide) (by omega))) ?_
  refine xw_putR (o := (some (xsz g))) (pc := 14) fd_X2_14 (xfin_of (by decide) (by decide +kernel)) dX2_init_2_14 (by first | assumption | (simp [-List.getD_eq_getElem?_getD, xE_setI, xsz_setI, xsl_setI, xtag_setI, xown_setI, xlen_setI, xE_setR, xsz_setR, xsl_setR, xtag_setR, xown_setR, xlen_setR, xE_setW, xsz_setW, xsl_setW, xtag_setW, xown_setW, xlen_setW, xi_setR, xi_setW, xr_setI, xr_setW, xww_setI, xww_setR, xi_setI, xr_setR, xww_setW, xE_new, xsz_new, xsl_new, ht, t1, t2, t3, o1, o2, o3, xsub]; done) | (simp [-List.getD_eq_getElem?_getD, xE_setI, xsz_setI, xsl_setI, xtag_setI, xown_setI, xlen_setI, xE_setR, xsz_setR, xsl_setR, xtag_setR, xown_setR, xlen_setR, xE_setW, xsz_setW, xsl_setW, xtag_setW, xown_setW, xlen_setW, xi_setR, xi_setW, xr_setI, xr_setW, xww_setI, xww_setR, xi_setI, xr_setR, xww_setW, xE_new, xsz_new, xsl_new, ht, t1, t2, t3, o1, o2, o3] <;> rfl)) (by first | assumption | (simp [-List.getD_eq_getElem?_getD, xE_setI, xsz_setI, xsl_setI, xtag_setI, xown_setI, xlen_setI, xE_setR, xsz_setR, xsl_setR, xtag_setR, xown_setR, xlen_setR, xE_setW, xsz_setW, xsl_setW, xtag_setW, xown_setW, xlen_setW, xi_setR, xi_setW, xr_setI, xr_setW, xww_setI, xww_setR, xi_setI, xr_setR, xww_setW, xE_new, xsz_new, xsl_new, ht, t1, t2, t3, o1, o2, o3]; done) | (simp [-List.getD_eq_getElem?_getD, xE_setI, xsz_setI, xsl_setI, xtag_setI, xown_setI, xlen_setI, xE_setR, xsz_setR, xsl_setR, xtag_setR, xown_setR, xlen_setR, xE_setW, xsz_setW, xsl_setW, xtag_setW, xown_setW, xlen_setW, xi_setR, xi_setW, xr_setI, xr_setW, xww_setI, xww_setR, xi_setI, xr_setR, xww_setW, xE_new, xsz_new, xsl_new, ht, t1, t2, t3, o1, o2, o3]; assumption)) rfl ?_
  refine xw_aload_n (pc := 17) dX2_init_2_17 0 rfl ?_
  refine xw_new (t := 18) (pc := 18) (1000 * q + 2) dX2_init_2_18 rfl (by decide) (by first | decide | assumption | omega) q157 q158 q96 ?_
  refine xw_at (a := (xsz g + 2)) (by rfl) ?_
  refine xw_dup (pc := 21) dX2_init_2_21 rfl ?_
  refine xw_bipush (v := nI 16) (pc := 22) dX2_init_2_22 (by decide +kernel) ?_
  refine xw_callU (pc := 24) (xr_I (as := [_]) ok_J2_init rfl (by decide) q159 q160 rfl rfl dX2_init_2_24 rfl rfl (Nat.le_of_ble_eq_true rfl)) ((show XM M_J2_init (d + 7) [.ref (xsz (xsetR (xLN g (1000 * q + 1) 10) q 0 (some (xsz g)))), .int (nI 16)] (xNew (xsetR (xLN g (1000 * q + 1) 10) q 0 (some (xsz g))) (xBlank 18 (1000 * q + 2) 3) 3) (xOne none (xLN (xsetR (xLN g (1000 * q + 1) 10) q 0 (some (xsz g))) (1000 * q + 2) 16)) from SP_J2_initX (d := d + 4) (by rw [xtag_newS rfl]; rfl) (by rw [xown_newS rfl]; rfl) (by decide) (by decide) (by omega))) ?_
  refine xw_putR (o := (some (xsz g + 2))) (pc := 27) fd_X2_20 (xfin_of (by decide) (by decide +kernel)) dX2_init_2_27 (by first | assumption | (simp [-List.getD_eq_getElem?_getD, xE_setI, xsz_setI, xsl_setI, xtag_setI, xown_setI, xlen_setI, xE_setR, xsz_setR, xsl_setR, xtag_setR, xown_setR, xlen_setR, xE_setW, xsz_setW, xsl_setW, xtag_setW, xown_setW, xlen_setW, xi_setR, xi_setW, xr_setI, xr_setW, xww_setI, xww_setR, xi_setI, xr_setR, xww_setW, xE_new, xsz_new, xsl_new, ht, t1, t2, t3, o1, o2, o3, xsub]; done) | (simp [-List.getD_eq_getElem?_getD, xE_setI, xsz_setI, xsl_setI, xtag_setI, xown_setI, xlen_setI, xE_setR, xsz_setR, xsl_setR, xtag_setR, xown_setR, xlen_setR, xE_setW, xsz_setW, xsl_setW, xtag_setW, xown_setW, xlen_setW, xi_setR, xi_setW, xr_setI, xr_setW, xww_setI, xww_setR, xi_setI, xr_setR, xww_setW, xE_new, xsz_new, xsl_new, ht, t1, t2, t3, o1, o2, o3] <;> rfl)) (by first | assumption | (simp [-List.getD_eq_getElem?_getD, xE_setI, xsz_setI, xsl_setI, xtag_setI, xown_setI, xlen_setI, xE_setR, xsz_setR, xsl_setR, xtag_setR, xown_setR, xlen_setR, xE_setW, xsz_setW, xsl_setW, xtag_setW, xown_setW, xlen_setW, xi_setR, xi_setW, xr_setI, xr_setW, xww_setI, xww_setR, xi_setI, xr_setR, xww_setW, xE_new, xsz_new, xsl_new, ht, t1, t2, t3, o1, o2, o3]; done) | (simp [-List.getD_eq_getElem?_getD, xE_setI, xsz_setI, xsl_setI, xtag_setI, xown_setI, xlen_setI, xE_setR, xsz_setR, xsl_setR, xtag_setR, xown_setR, xlen_setR, xE_setW, xsz_setW, xsl_setW, xtag_setW, xown_setW, xlen_setW, xi_setR, xi_setW, xr_setI, xr_setW, xww_setI, xww_setR, xi_setI, xr_setR, xww_setW, xE_new, xsz_new, xsl_new, ht, t1, t2, t3, o1, o2, o3]; assumption)) rfl ?_
  refine xw_aload_n (pc := 30) dX2_init_2_30 0 rfl ?_
  refine xw_new (t := 18) (pc := 31) (1000 * q + 3) dX2_init_2_31 rfl (by decide) (by first | decide | assumption | omega) q157 q158 q96 ?_
  refine xw_at (a := (xsz g + 4)) (by rfl) ?_
  refine xw_dup (pc := 34) dX2_init_2_34 rfl ?_
  refine xw_bipush (v := nI 12) (pc := 35) dX2_init_2_35 (by decide +kernel) ?_
  refine xw_callU (pc := 37) (xr_I (as := [_]) ok_J2_init rfl (by decide) q159 q160 rfl rfl dX2_init_2_37 rfl rfl (Nat.le_of_ble_eq_true rfl)) ((show XM M_J2_init (d + 7) [.ref (xsz (xsetR (xLN (xsetR (xLN g (1000 * q + 1) 10) q 0 (some (xsz g))) (1000 * q + 2) 16) q 1 (some (xsz g + 2)))), .int (nI 12)] (xNew (xsetR (xLN (xsetR (xLN g (1000 * q + 1) 10) q 0 (some (xsz g))) (1000 * q + 2) 16) q 1 (some (xsz g + 2))) (xBlank 18 (1000 * q + 3) 3) 3) (xOne none (xLN (xsetR (xLN (xsetR (xLN g (1000 * q + 1) 10) q 0 (some (xsz g))) (1000 * q + 2) 16) q 1 (some (xsz g + 2))) (1000 * q + 3) 12)) from SP_J2_initX (d := d + 4) (by rw [xtag_newS rfl]; rfl) (by rw [xown_newS rfl]; rfl) (by decide) (by decide) (by omega))) ?_
  refine xw_putR (o := (some (xsz g + 4))) (pc := 40) fd_X2_23 (xfin_of (by decide) (by decide +kernel)) dX2_init_2_40 (by first | assumption | (simp [-List.getD_eq_getElem?_getD, xE_setI, xsz_setI, xsl_setI, xtag_setI, xown_setI, xlen_setI, xE_setR, xsz_setR, xsl_setR, xtag_setR, xown_setR, xlen_setR, xE_setW, xsz_setW, xsl_setW, xtag_setW, xown_setW, xlen_setW, xi_setR, xi_setW, xr_setI, xr_setW, xww_setI, xww_setR, xi_setI, xr_setR, xww_setW, xE_new, xsz_new, xsl_new, ht, t1, t2, t3, o1, o2, o3, xsub]; done) | (simp [-List.getD_eq_getElem?_getD, xE_setI, xsz_setI, xsl_setI, xtag_setI, xown_setI, xlen_setI, xE_setR, xsz_setR, xsl_setR, xtag_setR, xown_setR, xlen_setR, xE_setW, xsz_setW, xsl_setW, xtag_setW, xown_setW, xlen_setW, xi_setR, xi_setW, xr_setI, xr_setW, xww_setI, xww_setR, xi_setI, xr_setR, xww_setW, xE_new, xsz_new, xsl_new, ht, t1, t2, t3, o1, o2, o3] <;> rfl)) (by first | assumption | (simp [-List.getD_eq_getElem?_getD, xE_setI, xsz_setI, xsl_setI, xtag_setI, xown_setI, xlen_setI, xE_setR, xsz_setR, xsl_setR, xtag_setR, xown_setR, xlen_setR, xE_setW, xsz_setW, xsl_setW, xtag_setW, xown_setW, xlen_setW, xi_setR, xi_setW, xr_setI, xr_setW, xww_setI, xww_setR, xi_setI, xr_setR, xww_setW, xE_new, xsz_new, xsl_new, ht, t1, t2, t3, o1, o2, o3]; done) | (simp [-List.getD_eq_getElem?_getD, xE_setI, xsz_setI, xsl_setI, xtag_setI, xown_setI, xlen_setI, xE_setR, xsz_setR, xsl_setR, xtag_setR, xown_setR, xlen_setR, xE_setW, xsz_setW, xsl_setW, xtag_setW, xown_setW, xlen_setW, xi_setR, xi_setW, xr_setI, xr_setW, xww_setI, xww_setR, xi_setI, xr_setR, xww_setW, xE_new, xsz_new, xsl_new, ht, t1, t2, t3, o1, o2, o3]; assumption)) rfl ?_
  refine xw_iconst (v := nI 0) (pc := 43) dX2_init_2_43 rfl ?_
  refine xw_istore_n (l' := [(2, _), (0, _), (1, _)]) (pc := 44) dX2_init_2_44 rfl (by decide) rfl ?_
  exact lp1_X2_init_2 hP hq hpq (n + 1) 0 (xPI g q) [] [] [] 53 (by omega) (by omega) rfl rfl rfl (xPI_cp ht ho hq) ((xPI.fr (xFr.rf (n := 0)) hlq (Or.inr (by rw [ho]; exact ⟨by omega, by omega⟩))).sub (fun _ h => h) (by omega)) (by omega)

theorem SP_X2_copy {d : Nat} {g : xG} {p n rr ww : Nat} {Z : xAd} {s : Nat → Int32} (hP : xPol g p Z s n rr ww) : XM M_X2_copy (d + 9) [.ref p] g (xVal (.ref (xsz g)) (fun g' => ∃ Z', xPol g' (xsz g) Z' s n rr ww ∧ xFr (oP (xsz g)) 1404 g g')) := by
  have hlp := hP.lt
  have hpk := hP.fr ((xFr.rf (O := oNo) (n := 0) (g := g)).nw (c := xBlank 2 (1000 * xsz g) 3) (k := 3)) (fun o h1 h2 => h2) (fun h => h)
  have t1 : xtag (xNew g (xBlank 2 (1000 * xsz g) 3) 3) (xsz g) = 2 := by rw [xtag_newS rfl]; rfl
  have t2 : xown (xNew g (xBlank 2 (1000 * xsz g) 3) 3) (xsz g) = 1000 * xsz g := by rw [xown_newS rfl]; rfl
  have w1 := hP.tag
  refine xm_of (by decide +kernel) (Nat.le_of_ble_eq_true rfl) ?_
  show XW _ _ 0 [(0, _)] [] _ _
  refine xw_new (t := 2) (pc := 0) (1000 * xsz g) dX2_copy_0 rfl (by decide) (by first | decide | assumption | omega) q906 q152 q93 ?_
  refine xw_at (a := (xsz g)) (by rfl) ?_
  refine xw_dup (pc := 3) dX2_copy_3 rfl ?_
  refine xw_aload_n (pc := 4) dX2_copy_4 0 rfl ?_
  refine xw_callH (pc := 5) (xr_I (as := [_]) ok_X2_init_2 rfl (by decide) q907 q908 rfl rfl dX2_copy_5 rfl rfl (Nat.le_of_ble_eq_true rfl)) (SP_X2_init_2 hpk (by omega) (by omega) t1 t2) ?_
  intro g5 hc5 hm5
  refine xw_aret (pc := 8) (.object "PolicyNotation$Policy") dX2_copy_8 rfl ?_
  obtain ⟨Z', h1, h2⟩ := hc5
  exact ⟨rfl, Z', h1, ((xFr.rf (O := oP (xsz g)) (n := 0) (g := g)).nw.tr h2).sub (fun _ h => h) (by omega)⟩

