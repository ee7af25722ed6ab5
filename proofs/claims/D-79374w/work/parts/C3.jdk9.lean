/-! JDK 9: StringBuilder: append a char, read, set back: for callers -/
set_option maxRecDepth 100000
/-- a StringBuilder that holds n chars -/
def xBd (g : xG) (o b n : Nat) (ch : Nat → Nat) : Prop := ∃ v, xBL g o b v n ch ∨ xBU g o b v n ch
theorem xBd.fr {g g' : xG} {o b n N : Nat} {ch : Nat → Nat} {O : Nat → Prop} (h : xBd g o b n ch) (F : xFr O N g g') (hO : ¬ O o) : xBd g' o b n ch := by
  obtain ⟨v, h⟩ := h
  rcases h with h | h
  · exact ⟨v, Or.inl (h.fr F hO)⟩
  · exact ⟨v, Or.inr (h.fr F hO)⟩
theorem xBd.b0 {g : xG} {o b n : Nat} {ch : Nat → Nat} (h : xBd g o b n ch) : ∃ v, xB0 g o b v n := by
  obtain ⟨v, h⟩ := h
  rcases h with h | h
  · exact ⟨v, h.1⟩
  · exact ⟨v, h.1⟩
theorem xBd.tag {g : xG} {o b n : Nat} {ch : Nat → Nat} (h : xBd g o b n ch) : xtag g b = 19 := by
  obtain ⟨v, h⟩ := h.b0
  exact h.1
theorem xBd.own {g : xG} {o b n : Nat} {ch : Nat → Nat} (h : xBd g o b n ch) : xown g b = o := by
  obtain ⟨v, h⟩ := h.b0
  exact h.2.1

theorem SP_J7_inflate {d : Nat} {g : xG} {o b v n : Nat} {ch : Nat → Nat} (hS : xBL g o b v n ch) (ho : o ≠ 0) (hn : n < 1000) : XM M_J7_inflate (d + 5) [.ref b] g (xVoid (fun g' => ∃ w, xBU g' o b w n ch ∧ xlen g' w = xlen g v * 2 ∧ xFr (oEq o) 2001 g g')) := by
  have hS0 := hS
  obtain ⟨⟨s1, s2, s3, s7, s5, s6⟩, s4, s8, s9, s10⟩ := hS
  have hbz : b < xsz g := xlt (by rw [s1]; decide)
  have hvz : v < xsz g := xlt (by rw [s5]; decide)
  have F1 : xFr oNo (0 + (xlen g v * 2 + 1)) g (xNew g (xBlank 103 o (xlen g v * 2)) (xlen g v * 2)) := (xFr.rf (O := oNo) (n := 0)).nw
  have u1 : xtag (xNew g (xBlank 103 o (xlen g v * 2)) (xlen g v * 2)) v = 103 := xtag_new hvz ▸ s5
  have u2 : xlen (xNew g (xBlank 103 o (xlen g v * 2)) (xlen g v * 2)) v = xlen g v := xlen_new hvz
  have u3 : xtag (xNew g (xBlank 103 o (xlen g v * 2)) (xlen g v * 2)) (xsz g) = 103 := xtag_newS rfl
  have u4 : xown (xNew g (xBlank 103 o (xlen g v * 2)) (xlen g v * 2)) (xsz g) = o := xown_newS rfl
  have u5 : xlen (xNew g (xBlank 103 o (xlen g v * 2)) (xlen g v * 2)) (xsz g) = xlen g v * 2 := xlen_newS rfl
  have u6 : xtag (xNew g (xBlank 103 o (xlen g v * 2)) (xlen g v * 2)) b = 19 := xtag_new hbz ▸ s1
  have u7 : xr (xNew g (xBlank 103 o (xlen g v * 2)) (xlen g v * 2)) b 0 = some v := xr_new hbz ▸ s3
  have u8 : xi (xNew g (xBlank 103 o (xlen g v * 2)) (xlen g v * 2)) b 3 = nI n := xi_new hbz ▸ s7
  have u9 : ∀ j, xi (xNew g (xBlank 103 o (xlen g v * 2)) (xlen g v * 2)) v j = xi g v j := fun j => xi_new hvz
  have y1 : xtag (xUf (xNew g (xBlank 103 o (xlen g v * 2)) (xlen g v * 2)) (xsz g) ch n) b = 19 := by rw [xUf_tag]; exact u6
  have y2 : xown (xUf (xNew g (xBlank 103 o (xlen g v * 2)) (xlen g v * 2)) (xsz g) ch n) b ≠ 0 := by rw [xUf_own, F1.own hbz, s2]; exact ho
  refine xm_of (by decide +kernel) (Nat.le_of_ble_eq_true rfl) ?_
  show XW _ _ 0 [(0, _)] [] _ _
  refine xw_aload_n (pc := 0) dJ7_inflate_0 0 rfl ?_
  refine xw_callV (pc := 1) (xr_U (x := ⟨"java/lang/AbstractStringBuilder", "isLatin1", "()Z"⟩) (as := []) ok_J7_isLatin1 rfl (by decide) q300 q302 (Or.inr ⟨_, _, _, q301, q304⟩) ⟨by decide, by decide, by decide +kernel⟩ q301 (by rw [s1]; rfl) (by rw [s1]; exact q303) dJ7_inflate_1 rfl rfl (Nat.le_of_ble_eq_true rfl)) (SP_J7_isLatin1_0 s1 s4) ?_
  refine xw_if_ne (pc := 4) 8 dJ7_inflate_4 rfl (fun _ => ?_) (fun hb => absurd hb (by decide))
  refine xw_aload_n (pc := 8) dJ7_inflate_8 0 rfl ?_
  refine xw_getS (b := v) (pc := 9) fd_J7_15 dJ7_inflate_9 (by first | assumption | (simp [-List.getD_eq_getElem?_getD, xE_setI, xsz_setI, xsl_setI, xtag_setI, xown_setI, xlen_setI, xE_setR, xsz_setR, xsl_setR, xtag_setR, xown_setR, xlen_setR, xE_setW, xsz_setW, xsl_setW, xtag_setW, xown_setW, xlen_setW, xi_setR, xi_setW, xr_setI, xr_setW, xww_setI, xww_setR, xi_setI, xr_setR, xww_setW, xE_new, xsz_new, xsl_new, s1, s3, s5, s4, u6, u7, u8, y1, y2, xsub]; done) | (simp [-List.getD_eq_getElem?_getD, xE_setI, xsz_setI, xsl_setI, xtag_setI, xown_setI, xlen_setI, xE_setR, xsz_setR, xsl_setR, xtag_setR, xown_setR, xlen_setR, xE_setW, xsz_setW, xsl_setW, xtag_setW, xown_setW, xlen_setW, xi_setR, xi_setW, xr_setI, xr_setW, xww_setI, xww_setR, xi_setI, xr_setR, xww_setW, xE_new, xsz_new, xsl_new, s1, s3, s5, s4, u6, u7, u8, y1, y2] <;> rfl)) (by simp [-List.getD_eq_getElem?_getD, xE_setI, xsz_setI, xsl_setI, xtag_setI, xown_setI, xlen_setI, xE_setR, xsz_setR, xsl_setR, xtag_setR, xown_setR, xlen_setR, xE_setW, xsz_setW, xsl_setW, xtag_setW, xown_setW, xlen_setW, xi_setR, xi_setW, xr_setI, xr_setW, xww_setI, xww_setR, xi_setI, xr_setR, xww_setW, xE_new, xsz_new, xsl_new, s1, s3, s5, s4, u6, u7, u8, y1, y2]) ?_
  refine xw_alen (q := 2) (pc := 12) dJ7_inflate_12 (by simp [-List.getD_eq_getElem?_getD, xE_setI, xsz_setI, xsl_setI, xtag_setI, xown_setI, xlen_setI, xE_setR, xsz_setR, xsl_setR, xtag_setR, xown_setR, xlen_setR, xE_setW, xsz_setW, xsl_setW, xtag_setW, xown_setW, xlen_setW, xi_setR, xi_setW, xr_setI, xr_setW, xww_setI, xww_setR, xi_setI, xr_setR, xww_setW, xE_new, xsz_new, xsl_new, s1, s3, s5, s4, u6, u7, u8, y1, y2]) (by first | decide | omega) ?_
  rw [show xlen _ v = (xlen g v) from by simp [-List.getD_eq_getElem?_getD, xE_setI, xsz_setI, xsl_setI, xtag_setI, xown_setI, xlen_setI, xE_setR, xsz_setR, xsl_setR, xtag_setR, xown_setR, xlen_setR, xE_setW, xsz_setW, xsl_setW, xtag_setW, xown_setW, xlen_setW, xi_setR, xi_setW, xr_setI, xr_setW, xww_setI, xww_setR, xi_setI, xr_setR, xww_setW, xE_new, xsz_new, xsl_new, s1, s3, s5, s4, u6, u7, u8, y1, y2]]
  refine xw_callV (pc := 13) (xr_S (as := [_]) ok_J10_newBytesFor rfl (by decide) q231 q232 dJ7_inflate_13 rfl rfl (Nat.le_of_ble_eq_true rfl)) (SP_J10_newBytesFor (o := o) (by omega) ho) ?_
  refine xw_astore_n (l' := [(1, _), (0, _)]) (pc := 16) dJ7_inflate_16 rfl (by decide) rfl ?_
  refine xw_aload_n (pc := 17) dJ7_inflate_17 1 rfl ?_
  refine xw_getS (b := v) (pc := 18) fd_J7_15 dJ7_inflate_18 (by first | assumption | (simp [-List.getD_eq_getElem?_getD, xE_setI, xsz_setI, xsl_setI, xtag_setI, xown_setI, xlen_setI, xE_setR, xsz_setR, xsl_setR, xtag_setR, xown_setR, xlen_setR, xE_setW, xsz_setW, xsl_setW, xtag_setW, xown_setW, xlen_setW, xi_setR, xi_setW, xr_setI, xr_setW, xww_setI, xww_setR, xi_setI, xr_setR, xww_setW, xE_new, xsz_new, xsl_new, s1, s3, s5, s4, u6, u7, u8, y1, y2, xsub]; done) | (simp [-List.getD_eq_getElem?_getD, xE_setI, xsz_setI, xsl_setI, xtag_setI, xown_setI, xlen_setI, xE_setR, xsz_setR, xsl_setR, xtag_setR, xown_setR, xlen_setR, xE_setW, xsz_setW, xsl_setW, xtag_setW, xown_setW, xlen_setW, xi_setR, xi_setW, xr_setI, xr_setW, xww_setI, xww_setR, xi_setI, xr_setR, xww_setW, xE_new, xsz_new, xsl_new, s1, s3, s5, s4, u6, u7, u8, y1, y2] <;> rfl)) (by simp [-List.getD_eq_getElem?_getD, xE_setI, xsz_setI, xsl_setI, xtag_setI, xown_setI, xlen_setI, xE_setR, xsz_setR, xsl_setR, xtag_setR, xown_setR, xlen_setR, xE_setW, xsz_setW, xsl_setW, xtag_setW, xown_setW, xlen_setW, xi_setR, xi_setW, xr_setI, xr_setW, xww_setI, xww_setR, xi_setI, xr_setR, xww_setW, xE_new, xsz_new, xsl_new, s1, s3, s5, s4, u6, u7, u8, y1, y2]) ?_
  refine xw_iconst (v := nI 0) (pc := 21) dJ7_inflate_21 rfl ?_
  refine xw_aload_n (pc := 22) dJ7_inflate_22 0 rfl ?_
  refine xw_iconst (v := nI 0) (pc := 23) dJ7_inflate_23 rfl ?_
  refine xw_aload_n (pc := 24) dJ7_inflate_24 1 rfl ?_
  refine xw_getNat (k := n) (pc := 25) fd_J7_79 dJ7_inflate_25 (by first | assumption | (simp [-List.getD_eq_getElem?_getD, xE_setI, xsz_setI, xsl_setI, xtag_setI, xown_setI, xlen_setI, xE_setR, xsz_setR, xsl_setR, xtag_setR, xown_setR, xlen_setR, xE_setW, xsz_setW, xsl_setW, xtag_setW, xown_setW, xlen_setW, xi_setR, xi_setW, xr_setI, xr_setW, xww_setI, xww_setR, xi_setI, xr_setR, xww_setW, xE_new, xsz_new, xsl_new, s1, s3, s5, s4, u6, u7, u8, y1, y2, xsub]; done) | (simp [-List.getD_eq_getElem?_getD, xE_setI, xsz_setI, xsl_setI, xtag_setI, xown_setI, xlen_setI, xE_setR, xsz_setR, xsl_setR, xtag_setR, xown_setR, xlen_setR, xE_setW, xsz_setW, xsl_setW, xtag_setW, xown_setW, xlen_setW, xi_setR, xi_setW, xr_setI, xr_setW, xww_setI, xww_setR, xi_setI, xr_setR, xww_setW, xE_new, xsz_new, xsl_new, s1, s3, s5, s4, u6, u7, u8, y1, y2] <;> rfl)) (by simp [-List.getD_eq_getElem?_getD, xE_setI, xsz_setI, xsl_setI, xtag_setI, xown_setI, xlen_setI, xE_setR, xsz_setR, xsl_setR, xtag_setR, xown_setR, xlen_setR, xE_setW, xsz_setW, xsl_setW, xtag_setW, xown_setW, xlen_setW, xi_setR, xi_setW, xr_setI, xr_setW, xww_setI, xww_setR, xi_setI, xr_setR, xww_setW, xE_new, xsz_new, xsl_new, s1, s3, s5, s4, u6, u7, u8, y1, y2]) ?_
  refine xw_callU (pc := 28) (xr_S (as := [_, _, _, _, _]) ok_J15_inflate rfl (by decide) q353 q354 dJ7_inflate_28 rfl rfl (Nat.le_of_ble_eq_true rfl)) (SP_J15_inflate (ch := ch) u1 u3 (by rw [u4]; exact ho) (by rw [u5]; omega) (by omega) (by rw [u5]; omega) (by rw [u2]; omega) (fun j hj => ⟨(s10 j hj).1, (u9 j).trans (s10 j hj).2⟩)) ?_
  refine xw_aload_n (pc := 31) dJ7_inflate_31 1 rfl ?_
  refine xw_aload_n (pc := 32) dJ7_inflate_32 0 rfl ?_
  refine xw_putR (o := (some (xsz g))) (pc := 33) fd_J7_15 (xfin_of (by decide) (by decide +kernel)) dJ7_inflate_33 (by first | assumption | (simp [-List.getD_eq_getElem?_getD, xE_setI, xsz_setI, xsl_setI, xtag_setI, xown_setI, xlen_setI, xE_setR, xsz_setR, xsl_setR, xtag_setR, xown_setR, xlen_setR, xE_setW, xsz_setW, xsl_setW, xtag_setW, xown_setW, xlen_setW, xi_setR, xi_setW, xr_setI, xr_setW, xww_setI, xww_setR, xi_setI, xr_setR, xww_setW, xE_new, xsz_new, xsl_new, s1, s3, s5, s4, u6, u7, u8, y1, y2, xsub]; done) | (simp [-List.getD_eq_getElem?_getD, xE_setI, xsz_setI, xsl_setI, xtag_setI, xown_setI, xlen_setI, xE_setR, xsz_setR, xsl_setR, xtag_setR, xown_setR, xlen_setR, xE_setW, xsz_setW, xsl_setW, xtag_setW, xown_setW, xlen_setW, xi_setR, xi_setW, xr_setI, xr_setW, xww_setI, xww_setR, xi_setI, xr_setR, xww_setW, xE_new, xsz_new, xsl_new, s1, s3, s5, s4, u6, u7, u8, y1, y2] <;> rfl)) (by first | assumption | (simp [-List.getD_eq_getElem?_getD, xE_setI, xsz_setI, xsl_setI, xtag_setI, xown_setI, xlen_setI, xE_setR, xsz_setR, xsl_setR, xtag_setR, xown_setR, xlen_setR, xE_setW, xsz_setW, xsl_setW, xtag_setW, xown_setW, xlen_setW, xi_setR, xi_setW, xr_setI, xr_setW, xww_setI, xww_setR, xi_setI, xr_setR, xww_setW, xE_new, xsz_new, xsl_new, s1, s3, s5, s4, u6, u7, u8, y1, y2]; done) | (simp [-List.getD_eq_getElem?_getD, xE_setI, xsz_setI, xsl_setI, xtag_setI, xown_setI, xlen_setI, xE_setR, xsz_setR, xsl_setR, xtag_setR, xown_setR, xlen_setR, xE_setW, xsz_setW, xsl_setW, xtag_setW, xown_setW, xlen_setW, xi_setR, xi_setW, xr_setI, xr_setW, xww_setI, xww_setR, xi_setI, xr_setR, xww_setW, xE_new, xsz_new, xsl_new, s1, s3, s5, s4, u6, u7, u8, y1, y2]; assumption)) rfl ?_
  refine xw_aload_n (pc := 36) dJ7_inflate_36 1 rfl ?_
  refine xw_iconst (v := nI 1) (pc := 37) dJ7_inflate_37 rfl ?_
  refine xw_putI (pc := 38) fd_J7_22 (xfin_of (by decide) (by decide +kernel)) dJ7_inflate_38 (by first | assumption | (simp [-List.getD_eq_getElem?_getD, xE_setI, xsz_setI, xsl_setI, xtag_setI, xown_setI, xlen_setI, xE_setR, xsz_setR, xsl_setR, xtag_setR, xown_setR, xlen_setR, xE_setW, xsz_setW, xsl_setW, xtag_setW, xown_setW, xlen_setW, xi_setR, xi_setW, xr_setI, xr_setW, xww_setI, xww_setR, xi_setI, xr_setR, xww_setW, xE_new, xsz_new, xsl_new, s1, s3, s5, s4, u6, u7, u8, y1, y2, xsub]; done) | (simp [-List.getD_eq_getElem?_getD, xE_setI, xsz_setI, xsl_setI, xtag_setI, xown_setI, xlen_setI, xE_setR, xsz_setR, xsl_setR, xtag_setR, xown_setR, xlen_setR, xE_setW, xsz_setW, xsl_setW, xtag_setW, xown_setW, xlen_setW, xi_setR, xi_setW, xr_setI, xr_setW, xww_setI, xww_setR, xi_setI, xr_setR, xww_setW, xE_new, xsz_new, xsl_new, s1, s3, s5, s4, u6, u7, u8, y1, y2] <;> rfl)) (by first | assumption | (simp [-List.getD_eq_getElem?_getD, xE_setI, xsz_setI, xsl_setI, xtag_setI, xown_setI, xlen_setI, xE_setR, xsz_setR, xsl_setR, xtag_setR, xown_setR, xlen_setR, xE_setW, xsz_setW, xsl_setW, xtag_setW, xown_setW, xlen_setW, xi_setR, xi_setW, xr_setI, xr_setW, xww_setI, xww_setR, xi_setI, xr_setR, xww_setW, xE_new, xsz_new, xsl_new, s1, s3, s5, s4, u6, u7, u8, y1, y2]; done) | (simp [-List.getD_eq_getElem?_getD, xE_setI, xsz_setI, xsl_setI, xtag_setI, xown_setI, xlen_setI, xE_setR, xsz_setR, xsl_setR, xtag_setR, xown_setR, xlen_setR, xE_setW, xsz_setW, xsl_setW, xtag_setW, xown_setW, xlen_setW, xi_setR, xi_setW, xr_setI, xr_setW, xww_setI, xww_setR, xi_setI, xr_setR, xww_setW, xE_new, xsz_new, xsl_new, s1, s3, s5, s4, u6, u7, u8, y1, y2]; assumption)) ?_
  refine xw_vret (pc := 41) dJ7_inflate_41 rfl ?_
  have FU : xFr oNo (0 + (xlen g v * 2 + 1)) g (xUf (xNew g (xBlank 103 o (xlen g v * 2)) (xlen g v * 2)) (xsz g) ch n) := xUf_fr F1 (Or.inl (Nat.le_refl _)) n
  refine ⟨rfl, xsz g, hS0.inf FU (by rw [xUf_tag]; exact u3) (by rw [xUf_own]; exact u4) (by rw [xUf_len]; exact u5) (fun j hj => xUf_i (by rw [u3]; decide) n j hj), ?_, ?_⟩
  · rw [xlen_setI, xlen_setR, xUf_len]; exact u5
  · have z1 : xown (xUf (xNew g (xBlank 103 o (xlen g v * 2)) (xlen g v * 2)) (xsz g) ch n) b = o := by rw [xUf_own, F1.own hbz]; exact s2
    exact ((FU.sub (O' := oEq o) (m := 2001) (fun o h => h.elim) (by omega)).sr (Or.inr z1)).si (Or.inr (by rw [xown_setR]; exact z1))

theorem SP_J7_append_3A {d : Nat} {g : xG} {c : Nat} {o b v n : Nat} {ch : Nat → Nat} (hS : xBL g o b v n ch) (ho : o ≠ 0) (hc : c < 256) (hn : n < 300) : XM M_J7_append_3 (d + 6) [.ref b, .int (nI c)] g (xVal (.ref b) (fun g' => ∃ w, xBL g' o b w (n + 1) (chS ch n c) ∧ xFr (oEq o) 1300 g g')) := by
  have hS0 := hS
  obtain ⟨⟨s1, s2, s3, s7, s5, s6⟩, s4, s8, s9, s10⟩ := hS
  refine xm_of (by decide +kernel) (Nat.le_of_ble_eq_true rfl) ?_
  show XW _ _ 0 [(0, _), (1, _)] [] _ _
  refine xw_aload_n (pc := 0) dJ7_append_3_0 0 rfl ?_
  refine xw_aload_n (pc := 1) dJ7_append_3_1 0 rfl ?_
  refine xw_getNat (k := n) (pc := 2) fd_J7_79 dJ7_append_3_2 (by first | assumption | (simp [-List.getD_eq_getElem?_getD, xE_setI, xsz_setI, xsl_setI, xtag_setI, xown_setI, xlen_setI, xE_setR, xsz_setR, xsl_setR, xtag_setR, xown_setR, xlen_setR, xE_setW, xsz_setW, xsl_setW, xtag_setW, xown_setW, xlen_setW, xi_setR, xi_setW, xr_setI, xr_setW, xww_setI, xww_setR, xi_setI, xr_setR, xww_setW, xE_new, xsz_new, xsl_new, s1, s7, xsub]; done) | (simp [-List.getD_eq_getElem?_getD, xE_setI, xsz_setI, xsl_setI, xtag_setI, xown_setI, xlen_setI, xE_setR, xsz_setR, xsl_setR, xtag_setR, xown_setR, xlen_setR, xE_setW, xsz_setW, xsl_setW, xtag_setW, xown_setW, xlen_setW, xi_setR, xi_setW, xr_setI, xr_setW, xww_setI, xww_setR, xi_setI, xr_setR, xww_setW, xE_new, xsz_new, xsl_new, s1, s7] <;> rfl)) (by simp [-List.getD_eq_getElem?_getD, xE_setI, xsz_setI, xsl_setI, xtag_setI, xown_setI, xlen_setI, xE_setR, xsz_setR, xsl_setR, xtag_setR, xown_setR, xlen_setR, xE_setW, xsz_setW, xsl_setW, xtag_setW, xown_setW, xlen_setW, xi_setR, xi_setW, xr_setI, xr_setW, xww_setI, xww_setR, xi_setI, xr_setR, xww_setW, xE_new, xsz_new, xsl_new, s1, s7]) ?_
  refine xw_iconst (v := nI 1) (pc := 5) dJ7_append_3_5 rfl ?_
  refine xn_iadd (pc := 6) dJ7_append_3_6 ?_
  refine xw_callH (pc := 7) (xr_UP (as := [_]) ok_J7_ensureCapacityInternal rfl (by decide) q265 q2767 q268 q267 (by rw [s1]; rfl) (by rw [s1]; exact q221) q266 dJ7_append_3_7 rfl rfl (Nat.le_of_ble_eq_true rfl)) (SP_J7_ensure_0 (d := d + 1) hS0 ho (by omega)) ?_
  intro g7 hc7 hm7
  obtain ⟨v7, hB7, hl7, hF7⟩ := hc7
  have hB70 := hB7
  obtain ⟨⟨t1, t2, t3, t7, t5, t6⟩, t4, t8, t9, t10⟩ := hB7
  have t2n : xown g7 b ≠ 0 := by rw [t2]; exact ho
  have t6n : xown g7 v7 ≠ 0 := by rw [t6]; exact ho
  refine xw_aload_n (pc := 10) dJ7_append_3_10 0 rfl ?_
  refine xw_callV (pc := 11) (xr_U (x := ⟨"java/lang/AbstractStringBuilder", "isLatin1", "()Z"⟩) (as := []) ok_J7_isLatin1 rfl (by decide) q300 q302 (Or.inr ⟨_, _, _, q301, q304⟩) ⟨by decide, by decide, by decide +kernel⟩ q301 (by rw [t1]; rfl) (by rw [t1]; exact q303) dJ7_append_3_11 rfl rfl (Nat.le_of_ble_eq_true rfl)) (SP_J7_isLatin1_0 t1 t4) ?_
  refine xw_if_eq (pc := 14) 45 dJ7_append_3_14 rfl (fun hb => absurd hb (by decide)) (fun _ => ?_)
  refine xw_iload_n (pc := 17) dJ7_append_3_17 1 rfl ?_
  refine xw_callV (pc := 18) (xr_S (as := [_]) ok_J15_canEncode rfl (by decide) q1817 q1818 dJ7_append_3_18 rfl rfl (Nat.le_of_ble_eq_true rfl)) (SP_J15_canEncodeT hc) ?_
  refine xw_if_eq (pc := 21) 45 dJ7_append_3_21 rfl (fun hb => absurd hb (by decide)) (fun _ => ?_)
  refine xw_aload_n (pc := 24) dJ7_append_3_24 0 rfl ?_
  refine xw_getS (b := v7) (pc := 25) fd_J7_15 dJ7_append_3_25 (by first | assumption | (simp [-List.getD_eq_getElem?_getD, xE_setI, xsz_setI, xsl_setI, xtag_setI, xown_setI, xlen_setI, xE_setR, xsz_setR, xsl_setR, xtag_setR, xown_setR, xlen_setR, xE_setW, xsz_setW, xsl_setW, xtag_setW, xown_setW, xlen_setW, xi_setR, xi_setW, xr_setI, xr_setW, xww_setI, xww_setR, xi_setI, xr_setR, xww_setW, xE_new, xsz_new, xsl_new, s1, s7, t1, t3, t7, t5, t4, t2n, t6n, xsub]; done) | (simp [-List.getD_eq_getElem?_getD, xE_setI, xsz_setI, xsl_setI, xtag_setI, xown_setI, xlen_setI, xE_setR, xsz_setR, xsl_setR, xtag_setR, xown_setR, xlen_setR, xE_setW, xsz_setW, xsl_setW, xtag_setW, xown_setW, xlen_setW, xi_setR, xi_setW, xr_setI, xr_setW, xww_setI, xww_setR, xi_setI, xr_setR, xww_setW, xE_new, xsz_new, xsl_new, s1, s7, t1, t3, t7, t5, t4, t2n, t6n] <;> rfl)) (by simp [-List.getD_eq_getElem?_getD, xE_setI, xsz_setI, xsl_setI, xtag_setI, xown_setI, xlen_setI, xE_setR, xsz_setR, xsl_setR, xtag_setR, xown_setR, xlen_setR, xE_setW, xsz_setW, xsl_setW, xtag_setW, xown_setW, xlen_setW, xi_setR, xi_setW, xr_setI, xr_setW, xww_setI, xww_setR, xi_setI, xr_setR, xww_setW, xE_new, xsz_new, xsl_new, s1, s7, t1, t3, t7, t5, t4, t2n, t6n]) ?_
  refine xw_aload_n (pc := 28) dJ7_append_3_28 0 rfl ?_
  refine xw_dup (pc := 29) dJ7_append_3_29 rfl ?_
  refine xw_getNat (k := n) (pc := 30) fd_J7_79 dJ7_append_3_30 (by first | assumption | (simp [-List.getD_eq_getElem?_getD, xE_setI, xsz_setI, xsl_setI, xtag_setI, xown_setI, xlen_setI, xE_setR, xsz_setR, xsl_setR, xtag_setR, xown_setR, xlen_setR, xE_setW, xsz_setW, xsl_setW, xtag_setW, xown_setW, xlen_setW, xi_setR, xi_setW, xr_setI, xr_setW, xww_setI, xww_setR, xi_setI, xr_setR, xww_setW, xE_new, xsz_new, xsl_new, s1, s7, t1, t3, t7, t5, t4, t2n, t6n, xsub]; done) | (simp [-List.getD_eq_getElem?_getD, xE_setI, xsz_setI, xsl_setI, xtag_setI, xown_setI, xlen_setI, xE_setR, xsz_setR, xsl_setR, xtag_setR, xown_setR, xlen_setR, xE_setW, xsz_setW, xsl_setW, xtag_setW, xown_setW, xlen_setW, xi_setR, xi_setW, xr_setI, xr_setW, xww_setI, xww_setR, xi_setI, xr_setR, xww_setW, xE_new, xsz_new, xsl_new, s1, s7, t1, t3, t7, t5, t4, t2n, t6n] <;> rfl)) (by simp [-List.getD_eq_getElem?_getD, xE_setI, xsz_setI, xsl_setI, xtag_setI, xown_setI, xlen_setI, xE_setR, xsz_setR, xsl_setR, xtag_setR, xown_setR, xlen_setR, xE_setW, xsz_setW, xsl_setW, xtag_setW, xown_setW, xlen_setW, xi_setR, xi_setW, xr_setI, xr_setW, xww_setI, xww_setR, xi_setI, xr_setR, xww_setW, xE_new, xsz_new, xsl_new, s1, s7, t1, t3, t7, t5, t4, t2n, t6n]) ?_
  refine xw_dup_x1 (pc := 33) dJ7_append_3_33 rfl rfl ?_
  refine xw_iconst (v := nI 1) (pc := 34) dJ7_append_3_34 rfl ?_
  refine xn_iadd (pc := 35) dJ7_append_3_35 ?_
  refine xw_putI (pc := 36) fd_J7_79 (xfin_of (by decide) (by decide +kernel)) dJ7_append_3_36 (by first | assumption | (simp [-List.getD_eq_getElem?_getD, xE_setI, xsz_setI, xsl_setI, xtag_setI, xown_setI, xlen_setI, xE_setR, xsz_setR, xsl_setR, xtag_setR, xown_setR, xlen_setR, xE_setW, xsz_setW, xsl_setW, xtag_setW, xown_setW, xlen_setW, xi_setR, xi_setW, xr_setI, xr_setW, xww_setI, xww_setR, xi_setI, xr_setR, xww_setW, xE_new, xsz_new, xsl_new, s1, s7, t1, t3, t7, t5, t4, t2n, t6n, xsub]; done) | (simp [-List.getD_eq_getElem?_getD, xE_setI, xsz_setI, xsl_setI, xtag_setI, xown_setI, xlen_setI, xE_setR, xsz_setR, xsl_setR, xtag_setR, xown_setR, xlen_setR, xE_setW, xsz_setW, xsl_setW, xtag_setW, xown_setW, xlen_setW, xi_setR, xi_setW, xr_setI, xr_setW, xww_setI, xww_setR, xi_setI, xr_setR, xww_setW, xE_new, xsz_new, xsl_new, s1, s7, t1, t3, t7, t5, t4, t2n, t6n] <;> rfl)) (by first | assumption | (simp [-List.getD_eq_getElem?_getD, xE_setI, xsz_setI, xsl_setI, xtag_setI, xown_setI, xlen_setI, xE_setR, xsz_setR, xsl_setR, xtag_setR, xown_setR, xlen_setR, xE_setW, xsz_setW, xsl_setW, xtag_setW, xown_setW, xlen_setW, xi_setR, xi_setW, xr_setI, xr_setW, xww_setI, xww_setR, xi_setI, xr_setR, xww_setW, xE_new, xsz_new, xsl_new, s1, s7, t1, t3, t7, t5, t4, t2n, t6n]; done) | (simp [-List.getD_eq_getElem?_getD, xE_setI, xsz_setI, xsl_setI, xtag_setI, xown_setI, xlen_setI, xE_setR, xsz_setR, xsl_setR, xtag_setR, xown_setR, xlen_setR, xE_setW, xsz_setW, xsl_setW, xtag_setW, xown_setW, xlen_setW, xi_setR, xi_setW, xr_setI, xr_setW, xww_setI, xww_setR, xi_setI, xr_setR, xww_setW, xE_new, xsz_new, xsl_new, s1, s7, t1, t3, t7, t5, t4, t2n, t6n]; assumption)) ?_
  refine xw_iload_n (pc := 39) dJ7_append_3_39 1 rfl ?_
  refine xw_i2b (pc := 40) dJ7_append_3_40 ?_
  refine xw_bast (k := n) (pc := 41) dJ7_append_3_41 (by simp [-List.getD_eq_getElem?_getD, xE_setI, xsz_setI, xsl_setI, xtag_setI, xown_setI, xlen_setI, xE_setR, xsz_setR, xsl_setR, xtag_setR, xown_setR, xlen_setR, xE_setW, xsz_setW, xsl_setW, xtag_setW, xown_setW, xlen_setW, xi_setR, xi_setW, xr_setI, xr_setW, xww_setI, xww_setR, xi_setI, xr_setR, xww_setW, xE_new, xsz_new, xsl_new, s1, s7, t1, t3, t7, t5, t4, t2n, t6n]) (by first | assumption | (simp [-List.getD_eq_getElem?_getD, xE_setI, xsz_setI, xsl_setI, xtag_setI, xown_setI, xlen_setI, xE_setR, xsz_setR, xsl_setR, xtag_setR, xown_setR, xlen_setR, xE_setW, xsz_setW, xsl_setW, xtag_setW, xown_setW, xlen_setW, xi_setR, xi_setW, xr_setI, xr_setW, xww_setI, xww_setR, xi_setI, xr_setR, xww_setW, xE_new, xsz_new, xsl_new, s1, s7, t1, t3, t7, t5, t4, t2n, t6n]; done) | (simp [-List.getD_eq_getElem?_getD, xE_setI, xsz_setI, xsl_setI, xtag_setI, xown_setI, xlen_setI, xE_setR, xsz_setR, xsl_setR, xtag_setR, xown_setR, xlen_setR, xE_setW, xsz_setW, xsl_setW, xtag_setW, xown_setW, xlen_setW, xi_setR, xi_setW, xr_setI, xr_setW, xww_setI, xww_setR, xi_setI, xr_setR, xww_setW, xE_new, xsz_new, xsl_new, s1, s7, t1, t3, t7, t5, t4, t2n, t6n]; assumption)) rfl (by rw [xlen_setI]; omega) ?_
  rw [show ((nI c).toInt8.toInt32).toInt8.toInt32 = bt c from bt_i]
  refine xw_goto (pc := 42) 75 dJ7_append_3_42 rfl ?_
  refine xw_aload_n (pc := 75) dJ7_append_3_75 0 rfl ?_
  refine xw_aret (pc := 76) (.object "java/lang/AbstractStringBuilder") dJ7_append_3_76 rfl ?_
  exact ⟨rfl, v7, hB70.push hc (by omega), (hF7.si (Or.inr t2)).si (Or.inr (by rw [xown_setI]; exact t6))⟩

theorem SP_J7_append_3B {d : Nat} {g : xG} {c : Nat} {o b v n : Nat} {ch : Nat → Nat} (hS : xBL g o b v n ch) (ho : o ≠ 0) (hc : c < 65536) (hc2 : ¬ c < 256) (hn : n < 300) : XM M_J7_append_3 (d + 6) [.ref b, .int (nI c)] g (xVal (.ref b) (fun g' => ∃ w, xBU g' o b w (n + 1) (chS ch n c) ∧ xFr (oEq o) 3400 g g')) := by
  have hS0 := hS
  obtain ⟨⟨s1, s2, s3, s7, s5, s6⟩, s4, s8, s9, s10⟩ := hS
  refine xm_of (by decide +kernel) (Nat.le_of_ble_eq_true rfl) ?_
  show XW _ _ 0 [(0, _), (1, _)] [] _ _
  refine xw_aload_n (pc := 0) dJ7_append_3_0 0 rfl ?_
  refine xw_aload_n (pc := 1) dJ7_append_3_1 0 rfl ?_
  refine xw_getNat (k := n) (pc := 2) fd_J7_79 dJ7_append_3_2 (by first | assumption | (simp [-List.getD_eq_getElem?_getD, xE_setI, xsz_setI, xsl_setI, xtag_setI, xown_setI, xlen_setI, xE_setR, xsz_setR, xsl_setR, xtag_setR, xown_setR, xlen_setR, xE_setW, xsz_setW, xsl_setW, xtag_setW, xown_setW, xlen_setW, xi_setR, xi_setW, xr_setI, xr_setW, xww_setI, xww_setR, xi_setI, xr_setR, xww_setW, xE_new, xsz_new, xsl_new, s1, s7, xsub]; done) | (simp [-List.getD_eq_getElem?_getD, xE_setI, xsz_setI, xsl_setI, xtag_setI, xown_setI, xlen_setI, xE_setR, xsz_setR, xsl_setR, xtag_setR, xown_setR, xlen_setR, xE_setW, xsz_setW, xsl_setW, xtag_setW, xown_setW, xlen_setW, xi_setR, xi_setW, xr_setI, xr_setW, xww_setI, xww_setR, xi_setI, xr_setR, xww_setW, xE_new, xsz_new, xsl_new, s1, s7] <;> rfl)) (by simp [-List.getD_eq_getElem?_getD, xE_setI, xsz_setI, xsl_setI, xtag_setI, xown_setI, xlen_setI, xE_setR, xsz_setR, xsl_setR, xtag_setR, xown_setR, xlen_setR, xE_setW, xsz_setW, xsl_setW, xtag_setW, xown_setW, xlen_setW, xi_setR, xi_setW, xr_setI, xr_setW, xww_setI, xww_setR, xi_setI, xr_setR, xww_setW, xE_new, xsz_new, xsl_new, s1, s7]) ?_
  refine xw_iconst (v := nI 1) (pc := 5) dJ7_append_3_5 rfl ?_
  refine xn_iadd (pc := 6) dJ7_append_3_6 ?_
  refine xw_callH (pc := 7) (xr_UP (as := [_]) ok_J7_ensureCapacityInternal rfl (by decide) q265 q2767 q268 q267 (by rw [s1]; rfl) (by rw [s1]; exact q221) q266 dJ7_append_3_7 rfl rfl (Nat.le_of_ble_eq_true rfl)) (SP_J7_ensure_0 (d := d + 1) hS0 ho (by omega)) ?_
  intro g7 hc7 hm7
  obtain ⟨v7, hB7, hl7, hF7⟩ := hc7
  have hB70 := hB7
  obtain ⟨⟨t1, t2, t3, t7, t5, t6⟩, t4, t8, t9, t10⟩ := hB7
  have t2n : xown g7 b ≠ 0 := by rw [t2]; exact ho
  have t6n : xown g7 v7 ≠ 0 := by rw [t6]; exact ho
  refine xw_aload_n (pc := 10) dJ7_append_3_10 0 rfl ?_
  refine xw_callV (pc := 11) (xr_U (x := ⟨"java/lang/AbstractStringBuilder", "isLatin1", "()Z"⟩) (as := []) ok_J7_isLatin1 rfl (by decide) q300 q302 (Or.inr ⟨_, _, _, q301, q304⟩) ⟨by decide, by decide, by decide +kernel⟩ q301 (by rw [t1]; rfl) (by rw [t1]; exact q303) dJ7_append_3_11 rfl rfl (Nat.le_of_ble_eq_true rfl)) (SP_J7_isLatin1_0 t1 t4) ?_
  refine xw_if_eq (pc := 14) 45 dJ7_append_3_14 rfl (fun hb => absurd hb (by decide)) (fun _ => ?_)
  refine xw_iload_n (pc := 17) dJ7_append_3_17 1 rfl ?_
  refine xw_callV (pc := 18) (xr_S (as := [_]) ok_J15_canEncode rfl (by decide) q1817 q1818 dJ7_append_3_18 rfl rfl (Nat.le_of_ble_eq_true rfl)) (SP_J15_canEncodeF hc hc2) ?_
  refine xw_if_eq (pc := 21) 45 dJ7_append_3_21 rfl (fun _ => ?_) (fun hb => absurd hb (by decide))
  refine xw_aload_n (pc := 45) dJ7_append_3_45 0 rfl ?_
  refine xw_callV (pc := 46) (xr_U (x := ⟨"java/lang/AbstractStringBuilder", "isLatin1", "()Z"⟩) (as := []) ok_J7_isLatin1 rfl (by decide) q300 q302 (Or.inr ⟨_, _, _, q301, q304⟩) ⟨by decide, by decide, by decide +kernel⟩ q301 (by rw [t1]; rfl) (by rw [t1]; exact q303) dJ7_append_3_46 rfl rfl (Nat.le_of_ble_eq_true rfl)) (SP_J7_isLatin1_0 t1 t4) ?_
  refine xw_if_eq (pc := 49) 56 dJ7_append_3_49 rfl (fun hb => absurd hb (by decide)) (fun _ => ?_)
  refine xw_aload_n (pc := 52) dJ7_append_3_52 0 rfl ?_
  refine xw_callH (pc := 53) (xr_UP (as := []) ok_J7_inflate rfl (by decide) q349 q2771 q352 q351 (by rw [t1]; rfl) (by rw [t1]; exact q221) q350 dJ7_append_3_53 rfl rfl (Nat.le_of_ble_eq_true rfl)) (SP_J7_inflate hB70 ho (by omega)) ?_
  intro g53 hc53 hm53
  obtain ⟨w53, hB53, hl53, hF53⟩ := hc53
  have hB530 := hB53
  obtain ⟨⟨z1, z2, z3, z7, z5, z6⟩, z4, z8, z9, z10⟩ := hB53
  have z2n : xown g53 b ≠ 0 := by rw [z2]; exact ho
  have z6n : xown g53 w53 ≠ 0 := by rw [z6]; exact ho
  refine xw_aload_n (pc := 56) dJ7_append_3_56 0 rfl ?_
  refine xw_getS (b := w53) (pc := 57) fd_J7_15 dJ7_append_3_57 (by first | assumption | (simp [-List.getD_eq_getElem?_getD, xE_setI, xsz_setI, xsl_setI, xtag_setI, xown_setI, xlen_setI, xE_setR, xsz_setR, xsl_setR, xtag_setR, xown_setR, xlen_setR, xE_setW, xsz_setW, xsl_setW, xtag_setW, xown_setW, xlen_setW, xi_setR, xi_setW, xr_setI, xr_setW, xww_setI, xww_setR, xi_setI, xr_setR, xww_setW, xE_new, xsz_new, xsl_new, s1, s7, t1, t3, t7, t5, t4, t2n, t6n, z1, z3, z7, z5, z4, z2n, z6n, xsub]; done) | (simp [-List.getD_eq_getElem?_getD, xE_setI, xsz_setI, xsl_setI, xtag_setI, xown_setI, xlen_setI, xE_setR, xsz_setR, xsl_setR, xtag_setR, xown_setR, xlen_setR, xE_setW, xsz_setW, xsl_setW, xtag_setW, xown_setW, xlen_setW, xi_setR, xi_setW, xr_setI, xr_setW, xww_setI, xww_setR, xi_setI, xr_setR, xww_setW, xE_new, xsz_new, xsl_new, s1, s7, t1, t3, t7, t5, t4, t2n, t6n, z1, z3, z7, z5, z4, z2n, z6n] <;> rfl)) (by simp [-List.getD_eq_getElem?_getD, xE_setI, xsz_setI, xsl_setI, xtag_setI, xown_setI, xlen_setI, xE_setR, xsz_setR, xsl_setR, xtag_setR, xown_setR, xlen_setR, xE_setW, xsz_setW, xsl_setW, xtag_setW, xown_setW, xlen_setW, xi_setR, xi_setW, xr_setI, xr_setW, xww_setI, xww_setR, xi_setI, xr_setR, xww_setW, xE_new, xsz_new, xsl_new, s1, s7, t1, t3, t7, t5, t4, t2n, t6n, z1, z3, z7, z5, z4, z2n, z6n]) ?_
  refine xw_aload_n (pc := 60) dJ7_append_3_60 0 rfl ?_
  refine xw_dup (pc := 61) dJ7_append_3_61 rfl ?_
  refine xw_getNat (k := n) (pc := 62) fd_J7_79 dJ7_append_3_62 (by first | assumption | (simp [-List.getD_eq_getElem?_getD, xE_setI, xsz_setI, xsl_setI, xtag_setI, xown_setI, xlen_setI, xE_setR, xsz_setR, xsl_setR, xtag_setR, xown_setR, xlen_setR, xE_setW, xsz_setW, xsl_setW, xtag_setW, xown_setW, xlen_setW, xi_setR, xi_setW, xr_setI, xr_setW, xww_setI, xww_setR, xi_setI, xr_setR, xww_setW, xE_new, xsz_new, xsl_new, s1, s7, t1, t3, t7, t5, t4, t2n, t6n, z1, z3, z7, z5, z4, z2n, z6n, xsub]; done) | (simp [-List.getD_eq_getElem?_getD, xE_setI, xsz_setI, xsl_setI, xtag_setI, xown_setI, xlen_setI, xE_setR, xsz_setR, xsl_setR, xtag_setR, xown_setR, xlen_setR, xE_setW, xsz_setW, xsl_setW, xtag_setW, xown_setW, xlen_setW, xi_setR, xi_setW, xr_setI, xr_setW, xww_setI, xww_setR, xi_setI, xr_setR, xww_setW, xE_new, xsz_new, xsl_new, s1, s7, t1, t3, t7, t5, t4, t2n, t6n, z1, z3, z7, z5, z4, z2n, z6n] <;> rfl)) (by simp [-List.getD_eq_getElem?_getD, xE_setI, xsz_setI, xsl_setI, xtag_setI, xown_setI, xlen_setI, xE_setR, xsz_setR, xsl_setR, xtag_setR, xown_setR, xlen_setR, xE_setW, xsz_setW, xsl_setW, xtag_setW, xown_setW, xlen_setW, xi_setR, xi_setW, xr_setI, xr_setW, xww_setI, xww_setR, xi_setI, xr_setR, xww_setW, xE_new, xsz_new, xsl_new, s1, s7, t1, t3, t7, t5, t4, t2n, t6n, z1, z3, z7, z5, z4, z2n, z6n]) ?_
  refine xw_dup_x1 (pc := 65) dJ7_append_3_65 rfl rfl ?_
  refine xw_iconst (v := nI 1) (pc := 66) dJ7_append_3_66 rfl ?_
  refine xn_iadd (pc := 67) dJ7_append_3_67 ?_
  refine xw_putI (pc := 68) fd_J7_79 (xfin_of (by decide) (by decide +kernel)) dJ7_append_3_68 (by first | assumption | (simp [-List.getD_eq_getElem?_getD, xE_setI, xsz_setI, xsl_setI, xtag_setI, xown_setI, xlen_setI, xE_setR, xsz_setR, xsl_setR, xtag_setR, xown_setR, xlen_setR, xE_setW, xsz_setW, xsl_setW, xtag_setW, xown_setW, xlen_setW, xi_setR, xi_setW, xr_setI, xr_setW, xww_setI, xww_setR, xi_setI, xr_setR, xww_setW, xE_new, xsz_new, xsl_new, s1, s7, t1, t3, t7, t5, t4, t2n, t6n, z1, z3, z7, z5, z4, z2n, z6n, xsub]; done) | (simp [-List.getD_eq_getElem?_getD, xE_setI, xsz_setI, xsl_setI, xtag_setI, xown_setI, xlen_setI, xE_setR, xsz_setR, xsl_setR, xtag_setR, xown_setR, xlen_setR, xE_setW, xsz_setW, xsl_setW, xtag_setW, xown_setW, xlen_setW, xi_setR, xi_setW, xr_setI, xr_setW, xww_setI, xww_setR, xi_setI, xr_setR, xww_setW, xE_new, xsz_new, xsl_new, s1, s7, t1, t3, t7, t5, t4, t2n, t6n, z1, z3, z7, z5, z4, z2n, z6n] <;> rfl)) (by first | assumption | (simp [-List.getD_eq_getElem?_getD, xE_setI, xsz_setI, xsl_setI, xtag_setI, xown_setI, xlen_setI, xE_setR, xsz_setR, xsl_setR, xtag_setR, xown_setR, xlen_setR, xE_setW, xsz_setW, xsl_setW, xtag_setW, xown_setW, xlen_setW, xi_setR, xi_setW, xr_setI, xr_setW, xww_setI, xww_setR, xi_setI, xr_setR, xww_setW, xE_new, xsz_new, xsl_new, s1, s7, t1, t3, t7, t5, t4, t2n, t6n, z1, z3, z7, z5, z4, z2n, z6n]; done) | (simp [-List.getD_eq_getElem?_getD, xE_setI, xsz_setI, xsl_setI, xtag_setI, xown_setI, xlen_setI, xE_setR, xsz_setR, xsl_setR, xtag_setR, xown_setR, xlen_setR, xE_setW, xsz_setW, xsl_setW, xtag_setW, xown_setW, xlen_setW, xi_setR, xi_setW, xr_setI, xr_setW, xww_setI, xww_setR, xi_setI, xr_setR, xww_setW, xE_new, xsz_new, xsl_new, s1, s7, t1, t3, t7, t5, t4, t2n, t6n, z1, z3, z7, z5, z4, z2n, z6n]; assumption)) ?_
  refine xw_iload_n (pc := 71) dJ7_append_3_71 1 rfl ?_
  refine xw_callU (pc := 72) (xr_S (as := [_, _, _]) ok_J10_putCharSB rfl (by decide) q1820 q1821 dJ7_append_3_72 rfl rfl (Nat.le_of_ble_eq_true rfl)) (SP_J10_putCharSB (v := w53) (k := n) (by rw [xtag_setI]; exact z5) (by rw [xlen_setI]; omega) (by rw [xlen_setI]; omega) hc (by rw [xown_setI]; exact z6n)) ?_
  refine xw_aload_n (pc := 75) dJ7_append_3_75 0 rfl ?_
  refine xw_aret (pc := 76) (.object "java/lang/AbstractStringBuilder") dJ7_append_3_76 rfl ?_
  exact ⟨rfl, w53, hB530.push hc (by omega), ((((hF7.tr hF53).sub (fun _ h => h) (by omega)).si (Or.inr z2)).si (Or.inr (by rw [xown_setI]; exact z6))).si (Or.inr (by rw [xown_setI, xown_setI]; exact z6))⟩

theorem SP_J7_append_3C {d : Nat} {g : xG} {c : Nat} {o b v n : Nat} {ch : Nat → Nat} (hS : xBU g o b v n ch) (ho : o ≠ 0) (hc : c < 65536) (hn : n < 300) : XM M_J7_append_3 (d + 6) [.ref b, .int (nI c)] g (xVal (.ref b) (fun g' => ∃ w, xBU g' o b w (n + 1) (chS ch n c) ∧ xFr (oEq o) 1300 g g')) := by
  have hS0 := hS
  obtain ⟨⟨s1, s2, s3, s7, s5, s6⟩, s4, s8, s9, s10⟩ := hS
  refine xm_of (by decide +kernel) (Nat.le_of_ble_eq_true rfl) ?_
  show XW _ _ 0 [(0, _), (1, _)] [] _ _
  refine xw_aload_n (pc := 0) dJ7_append_3_0 0 rfl ?_
  refine xw_aload_n (pc := 1) dJ7_append_3_1 0 rfl ?_
  refine xw_getNat (k := n) (pc := 2) fd_J7_79 dJ7_append_3_2 (by first | assumption | (simp [-List.getD_eq_getElem?_getD, xE_setI, xsz_setI, xsl_setI, xtag_setI, xown_setI, xlen_setI, xE_setR, xsz_setR, xsl_setR, xtag_setR, xown_setR, xlen_setR, xE_setW, xsz_setW, xsl_setW, xtag_setW, xown_setW, xlen_setW, xi_setR, xi_setW, xr_setI, xr_setW, xww_setI, xww_setR, xi_setI, xr_setR, xww_setW, xE_new, xsz_new, xsl_new, s1, s7, xsub]; done) | (simp [-List.getD_eq_getElem?_getD, xE_setI, xsz_setI, xsl_setI, xtag_setI, xown_setI, xlen_setI, xE_setR, xsz_setR, xsl_setR, xtag_setR, xown_setR, xlen_setR, xE_setW, xsz_setW, xsl_setW, xtag_setW, xown_setW, xlen_setW, xi_setR, xi_setW, xr_setI, xr_setW, xww_setI, xww_setR, xi_setI, xr_setR, xww_setW, xE_new, xsz_new, xsl_new, s1, s7] <;> rfl)) (by simp [-List.getD_eq_getElem?_getD, xE_setI, xsz_setI, xsl_setI, xtag_setI, xown_setI, xlen_setI, xE_setR, xsz_setR, xsl_setR, xtag_setR, xown_setR, xlen_setR, xE_setW, xsz_setW, xsl_setW, xtag_setW, xown_setW, xlen_setW, xi_setR, xi_setW, xr_setI, xr_setW, xww_setI, xww_setR, xi_setI, xr_setR, xww_setW, xE_new, xsz_new, xsl_new, s1, s7]) ?_
  refine xw_iconst (v := nI 1) (pc := 5) dJ7_append_3_5 rfl ?_
  refine xn_iadd (pc := 6) dJ7_append_3_6 ?_
  refine xw_callH (pc := 7) (xr_UP (as := [_]) ok_J7_ensureCapacityInternal rfl (by decide) q265 q2767 q268 q267 (by rw [s1]; rfl) (by rw [s1]; exact q221) q266 dJ7_append_3_7 rfl rfl (Nat.le_of_ble_eq_true rfl)) (SP_J7_ensure_1 (d := d + 1) hS0 ho (by omega)) ?_
  intro g7 hc7 hm7
  obtain ⟨v7, hB7, hl7, hF7⟩ := hc7
  have hB70 := hB7
  obtain ⟨⟨t1, t2, t3, t7, t5, t6⟩, t4, t8, t9, t10⟩ := hB7
  have t2n : xown g7 b ≠ 0 := by rw [t2]; exact ho
  have t6n : xown g7 v7 ≠ 0 := by rw [t6]; exact ho
  refine xw_aload_n (pc := 10) dJ7_append_3_10 0 rfl ?_
  refine xw_callV (pc := 11) (xr_U (x := ⟨"java/lang/AbstractStringBuilder", "isLatin1", "()Z"⟩) (as := []) ok_J7_isLatin1 rfl (by decide) q300 q302 (Or.inr ⟨_, _, _, q301, q304⟩) ⟨by decide, by decide, by decide +kernel⟩ q301 (by rw [t1]; rfl) (by rw [t1]; exact q303) dJ7_append_3_11 rfl rfl (Nat.le_of_ble_eq_true rfl)) (SP_J7_isLatin1_1 t1 t4) ?_
  refine xw_if_eq (pc := 14) 45 dJ7_append_3_14 rfl (fun _ => ?_) (fun hb => absurd hb (by decide))
  refine xw_aload_n (pc := 45) dJ7_append_3_45 0 rfl ?_
  refine xw_callV (pc := 46) (xr_U (x := ⟨"java/lang/AbstractStringBuilder", "isLatin1", "()Z"⟩) (as := []) ok_J7_isLatin1 rfl (by decide) q300 q302 (Or.inr ⟨_, _, _, q301, q304⟩) ⟨by decide, by decide, by decide +kernel⟩ q301 (by rw [t1]; rfl) (by rw [t1]; exact q303) dJ7_append_3_46 rfl rfl (Nat.le_of_ble_eq_true rfl)) (SP_J7_isLatin1_1 t1 t4) ?_
  refine xw_if_eq (pc := 49) 56 dJ7_append_3_49 rfl (fun _ => ?_) (fun hb => absurd hb (by decide))
  refine xw_aload_n (pc := 56) dJ7_append_3_56 0 rfl ?_
  refine xw_getS (b := v7) (pc := 57) fd_J7_15 dJ7_append_3_57 (by first | assumption | (simp [-List.getD_eq_getElem?_getD, xE_setI, xsz_setI, xsl_setI, xtag_setI, xown_setI, xlen_setI, xE_setR, xsz_setR, xsl_setR, xtag_setR, xown_setR, xlen_setR, xE_setW, xsz_setW, xsl_setW, xtag_setW, xown_setW, xlen_setW, xi_setR, xi_setW, xr_setI, xr_setW, xww_setI, xww_setR, xi_setI, xr_setR, xww_setW, xE_new, xsz_new, xsl_new, s1, s7, t1, t3, t7, t5, t4, t2n, t6n, xsub]; done) | (simp [-List.getD_eq_getElem?_getD, xE_setI, xsz_setI, xsl_setI, xtag_setI, xown_setI, xlen_setI, xE_setR, xsz_setR, xsl_setR, xtag_setR, xown_setR, xlen_setR, xE_setW, xsz_setW, xsl_setW, xtag_setW, xown_setW, xlen_setW, xi_setR, xi_setW, xr_setI, xr_setW, xww_setI, xww_setR, xi_setI, xr_setR, xww_setW, xE_new, xsz_new, xsl_new, s1, s7, t1, t3, t7, t5, t4, t2n, t6n] <;> rfl)) (by simp [-List.getD_eq_getElem?_getD, xE_setI, xsz_setI, xsl_setI, xtag_setI, xown_setI, xlen_setI, xE_setR, xsz_setR, xsl_setR, xtag_setR, xown_setR, xlen_setR, xE_setW, xsz_setW, xsl_setW, xtag_setW, xown_setW, xlen_setW, xi_setR, xi_setW, xr_setI, xr_setW, xww_setI, xww_setR, xi_setI, xr_setR, xww_setW, xE_new, xsz_new, xsl_new, s1, s7, t1, t3, t7, t5, t4, t2n, t6n]) ?_
  refine xw_aload_n (pc := 60) dJ7_append_3_60 0 rfl ?_
  refine xw_dup (pc := 61) dJ7_append_3_61 rfl ?_
  refine xw_getNat (k := n) (pc := 62) fd_J7_79 dJ7_append_3_62 (by first | assumption | (simp [-List.getD_eq_getElem?_getD, xE_setI, xsz_setI, xsl_setI, xtag_setI, xown_setI, xlen_setI, xE_setR, xsz_setR, xsl_setR, xtag_setR, xown_setR, xlen_setR, xE_setW, xsz_setW, xsl_setW, xtag_setW, xown_setW, xlen_setW, xi_setR, xi_setW, xr_setI, xr_setW, xww_setI, xww_setR, xi_setI, xr_setR, xww_setW, xE_new, xsz_new, xsl_new, s1, s7, t1, t3, t7, t5, t4, t2n, t6n, xsub]; done) | (simp [-List.getD_eq_getElem?_getD, xE_setI, xsz_setI, xsl_setI, xtag_setI, xown_setI, xlen_setI, xE_setR, xsz_setR, xsl_setR, xtag_setR, xown_setR, xlen_setR, xE_setW, xsz_setW, xsl_setW, xtag_setW, xown_setW, xlen_setW, xi_setR, xi_setW, xr_setI, xr_setW, xww_setI, xww_setR, xi_setI, xr_setR, xww_setW, xE_new, xsz_new, xsl_new, s1, s7, t1, t3, t7, t5, t4, t2n, t6n] <;> rfl)) (by simp [-List.getD_eq_getElem?_getD, xE_setI, xsz_setI, xsl_setI, xtag_setI, xown_setI, xlen_setI, xE_setR, xsz_setR, xsl_setR, xtag_setR, xown_setR, xlen_setR, xE_setW, xsz_setW, xsl_setW, xtag_setW, xown_setW, xlen_setW, xi_setR, xi_setW, xr_setI, xr_setW, xww_setI, xww_setR, xi_setI, xr_setR, xww_setW, xE_new, xsz_new, xsl_new, s1, s7, t1, t3, t7, t5, t4, t2n, t6n]) ?_
  refine xw_dup_x1 (pc := 65) dJ7_append_3_65 rfl rfl ?_
  refine xw_iconst (v := nI 1) (pc := 66) dJ7_append_3_66 rfl ?_
  refine xn_iadd (pc := 67) dJ7_append_3_67 ?_
  refine xw_putI (pc := 68) fd_J7_79 (xfin_of (by decide) (by decide +kernel)) dJ7_append_3_68 (by first | assumption | (simp [-List.getD_eq_getElem?_getD, xE_setI, xsz_setI, xsl_setI, xtag_setI, xown_setI, xlen_setI, xE_setR, xsz_setR, xsl_setR, xtag_setR, xown_setR, xlen_setR, xE_setW, xsz_setW, xsl_setW, xtag_setW, xown_setW, xlen_setW, xi_setR, xi_setW, xr_setI, xr_setW, xww_setI, xww_setR, xi_setI, xr_setR, xww_setW, xE_new, xsz_new, xsl_new, s1, s7, t1, t3, t7, t5, t4, t2n, t6n, xsub]; done) | (simp [-List.getD_eq_getElem?_getD, xE_setI, xsz_setI, xsl_setI, xtag_setI, xown_setI, xlen_setI, xE_setR, xsz_setR, xsl_setR, xtag_setR, xown_setR, xlen_setR, xE_setW, xsz_setW, xsl_setW, xtag_setW, xown_setW, xlen_setW, xi_setR, xi_setW, xr_setI, xr_setW, xww_setI, xww_setR, xi_setI, xr_setR, xww_setW, xE_new, xsz_new, xsl_new, s1, s7, t1, t3, t7, t5, t4, t2n, t6n] <;> rfl)) (by first | assumption | (simp [-List.getD_eq_getElem?_getD, xE_setI, xsz_setI, xsl_setI, xtag_setI, xown_setI, xlen_setI, xE_setR, xsz_setR, xsl_setR, xtag_setR, xown_setR, xlen_setR, xE_setW, xsz_setW, xsl_setW, xtag_setW, xown_setW, xlen_setW, xi_setR, xi_setW, xr_setI, xr_setW, xww_setI, xww_setR, xi_setI, xr_setR, xww_setW, xE_new, xsz_new, xsl_new, s1, s7, t1, t3, t7, t5, t4, t2n, t6n]; done) | (simp [-List.getD_eq_getElem?_getD, xE_setI, xsz_setI, xsl_setI, xtag_setI, xown_setI, xlen_setI, xE_setR, xsz_setR, xsl_setR, xtag_setR, xown_setR, xlen_setR, xE_setW, xsz_setW, xsl_setW, xtag_setW, xown_setW, xlen_setW, xi_setR, xi_setW, xr_setI, xr_setW, xww_setI, xww_setR, xi_setI, xr_setR, xww_setW, xE_new, xsz_new, xsl_new, s1, s7, t1, t3, t7, t5, t4, t2n, t6n]; assumption)) ?_
  refine xw_iload_n (pc := 71) dJ7_append_3_71 1 rfl ?_
  refine xw_callU (pc := 72) (xr_S (as := [_, _, _]) ok_J10_putCharSB rfl (by decide) q1820 q1821 dJ7_append_3_72 rfl rfl (Nat.le_of_ble_eq_true rfl)) (SP_J10_putCharSB (v := v7) (k := n) (by rw [xtag_setI]; exact t5) (by rw [xlen_setI]; omega) (by rw [xlen_setI]; omega) hc (by rw [xown_setI]; exact t6n)) ?_
  refine xw_aload_n (pc := 75) dJ7_append_3_75 0 rfl ?_
  refine xw_aret (pc := 76) (.object "java/lang/AbstractStringBuilder") dJ7_append_3_76 rfl ?_
  exact ⟨rfl, v7, hB70.push hc (by omega), ((hF7.si (Or.inr t2)).si (Or.inr (by rw [xown_setI]; exact t6))).si (Or.inr (by rw [xown_setI, xown_setI]; exact t6))⟩

theorem SP_J7_append_3 {d : Nat} {g : xG} {o b n c : Nat} {ch : Nat → Nat} (hB : xBd g o b n ch) (ho : o ≠ 0) (hc : c < 65536) (hn : n < 300) : XM M_J7_append_3 (d + 6) [.ref b, .int (nI c)] g (xVal (.ref b) (fun g' => xBd g' o b (n + 1) (chS ch n c) ∧ xFr (oEq o) 3400 g g')) := by
  obtain ⟨v, h | h⟩ := hB
  · by_cases h2 : c < 256
    · refine (SP_J7_append_3A (d := d) h ho h2 hn).mono (fun rs g' h9 _ => ?_)
      obtain ⟨e, w, h1, hF⟩ := h9
      exact ⟨e, ⟨w, Or.inl h1⟩, hF.sub (fun _ h => h) (by omega)⟩
    · refine (SP_J7_append_3B (d := d) h ho hc h2 hn).mono (fun rs g' h9 _ => ?_)
      obtain ⟨e, w, h1, hF⟩ := h9
      exact ⟨e, ⟨w, Or.inr h1⟩, hF⟩
  · refine (SP_J7_append_3C (d := d) h ho hc hn).mono (fun rs g' h9 _ => ?_)
    obtain ⟨e, w, h1, hF⟩ := h9
    exact ⟨e, ⟨w, Or.inr h1⟩, hF.sub (fun _ h => h) (by omega)⟩
theorem SP_J8_append_3 {d : Nat} {g : xG} {c : Nat} {o b n : Nat} {ch : Nat → Nat} (hB : xBd g o b n ch) (ho : o ≠ 0) (hc : c < 65536) (hn : n < 300) : XM M_J8_append_3 (d + 7) [.ref b, .int (nI c)] g (xVal (.ref b) (fun g' => xBd g' o b (n + 1) (chS ch n c) ∧ xFr (oEq o) 3400 g g')) := by
  refine xm_of (by decide +kernel) (Nat.le_of_ble_eq_true rfl) ?_
  show XW _ _ 0 [(0, _), (1, _)] [] _ _
  refine xw_aload_n (pc := 0) dJ8_append_3_0 0 rfl ?_
  refine xw_iload_n (pc := 1) dJ8_append_3_1 1 rfl ?_
  refine xw_callF (pc := 2) (xr_SU (as := [_]) ok_J7_append_3 rfl (by decide) q1814 q2780 q251 q1815 (by decide) (by exact hB.tag) dJ8_append_3_2 rfl rfl (Nat.le_of_ble_eq_true rfl)) (SP_J7_append_3 hB ho hc hn) ?_
  intro g2 hc2 hm2
  refine xw_pop (pc := 5) dJ8_append_3_5 rfl ?_
  refine xw_aload_n (pc := 6) dJ8_append_3_6 0 rfl ?_
  refine xw_aret (pc := 7) (.object "java/lang/StringBuilder") dJ8_append_3_7 rfl ?_
  exact ⟨rfl, hc2⟩

theorem SP_J7_charAtL {d : Nat} {g : xG} {k : Nat} {o b v n : Nat} {ch : Nat → Nat} (hS : xBL g o b v n ch) (hk : k < n) : XM M_J7_charAt (d + 2) [.ref b, .int (nI k)] g (xOne (some (.int (nI (ch k)))) g) := by
  have hS0 := hS
  obtain ⟨⟨s1, s2, s3, s7, s5, s6⟩, s4, s8, s9, s10⟩ := hS
  have hck := s10 k hk
  refine xm_of (by decide +kernel) (Nat.le_of_ble_eq_true rfl) ?_
  show XW _ _ 0 [(0, _), (1, _)] [] _ _
  refine xw_aload_n (pc := 0) dJ7_charAt_0 0 rfl ?_
  refine xw_getNat (k := 0) (pc := 1) fd_J7_22 dJ7_charAt_1 (by first | assumption | (simp [-List.getD_eq_getElem?_getD, xE_setI, xsz_setI, xsl_setI, xtag_setI, xown_setI, xlen_setI, xE_setR, xsz_setR, xsl_setR, xtag_setR, xown_setR, xlen_setR, xE_setW, xsz_setW, xsl_setW, xtag_setW, xown_setW, xlen_setW, xi_setR, xi_setW, xr_setI, xr_setW, xww_setI, xww_setR, xi_setI, xr_setR, xww_setW, xE_new, xsz_new, xsl_new, s1, s3, s7, s5, s4, xsub]; done) | (simp [-List.getD_eq_getElem?_getD, xE_setI, xsz_setI, xsl_setI, xtag_setI, xown_setI, xlen_setI, xE_setR, xsz_setR, xsl_setR, xtag_setR, xown_setR, xlen_setR, xE_setW, xsz_setW, xsl_setW, xtag_setW, xown_setW, xlen_setW, xi_setR, xi_setW, xr_setI, xr_setW, xww_setI, xww_setR, xi_setI, xr_setR, xww_setW, xE_new, xsz_new, xsl_new, s1, s3, s7, s5, s4] <;> rfl)) (by simp [-List.getD_eq_getElem?_getD, xE_setI, xsz_setI, xsl_setI, xtag_setI, xown_setI, xlen_setI, xE_setR, xsz_setR, xsl_setR, xtag_setR, xown_setR, xlen_setR, xE_setW, xsz_setW, xsl_setW, xtag_setW, xown_setW, xlen_setW, xi_setR, xi_setW, xr_setI, xr_setW, xww_setI, xww_setR, xi_setI, xr_setR, xww_setW, xE_new, xsz_new, xsl_new, s1, s3, s7, s5, s4]) ?_
  refine xw_istore_n (l' := [(2, _), (0, _), (1, _)]) (pc := 4) dJ7_charAt_4 rfl (by decide) rfl ?_
  refine xw_aload_n (pc := 5) dJ7_charAt_5 1 rfl ?_
  refine xw_getS (b := v) (pc := 6) fd_J7_15 dJ7_charAt_6 (by first | assumption | (simp [-List.getD_eq_getElem?_getD, xE_setI, xsz_setI, xsl_setI, xtag_setI, xown_setI, xlen_setI, xE_setR, xsz_setR, xsl_setR, xtag_setR, xown_setR, xlen_setR, xE_setW, xsz_setW, xsl_setW, xtag_setW, xown_setW, xlen_setW, xi_setR, xi_setW, xr_setI, xr_setW, xww_setI, xww_setR, xi_setI, xr_setR, xww_setW, xE_new, xsz_new, xsl_new, s1, s3, s7, s5, s4, xsub]; done) | (simp [-List.getD_eq_getElem?_getD, xE_setI, xsz_setI, xsl_setI, xtag_setI, xown_setI, xlen_setI, xE_setR, xsz_setR, xsl_setR, xtag_setR, xown_setR, xlen_setR, xE_setW, xsz_setW, xsl_setW, xtag_setW, xown_setW, xlen_setW, xi_setR, xi_setW, xr_setI, xr_setW, xww_setI, xww_setR, xi_setI, xr_setR, xww_setW, xE_new, xsz_new, xsl_new, s1, s3, s7, s5, s4] <;> rfl)) (by simp [-List.getD_eq_getElem?_getD, xE_setI, xsz_setI, xsl_setI, xtag_setI, xown_setI, xlen_setI, xE_setR, xsz_setR, xsl_setR, xtag_setR, xown_setR, xlen_setR, xE_setW, xsz_setW, xsl_setW, xtag_setW, xown_setW, xlen_setW, xi_setR, xi_setW, xr_setI, xr_setW, xww_setI, xww_setR, xi_setI, xr_setR, xww_setW, xE_new, xsz_new, xsl_new, s1, s3, s7, s5, s4]) ?_
  refine xw_astore_n (l' := [(3, _), (2, _), (0, _), (1, _)]) (pc := 9) dJ7_charAt_9 rfl (by decide) rfl ?_
  refine xw_aload_n (pc := 10) dJ7_charAt_10 2 rfl ?_
  refine xw_getNat (k := n) (pc := 11) fd_J7_79 dJ7_charAt_11 (by first | assumption | (simp [-List.getD_eq_getElem?_getD, xE_setI, xsz_setI, xsl_setI, xtag_setI, xown_setI, xlen_setI, xE_setR, xsz_setR, xsl_setR, xtag_setR, xown_setR, xlen_setR, xE_setW, xsz_setW, xsl_setW, xtag_setW, xown_setW, xlen_setW, xi_setR, xi_setW, xr_setI, xr_setW, xww_setI, xww_setR, xi_setI, xr_setR, xww_setW, xE_new, xsz_new, xsl_new, s1, s3, s7, s5, s4, xsub]; done) | (simp [-List.getD_eq_getElem?_getD, xE_setI, xsz_setI, xsl_setI, xtag_setI, xown_setI, xlen_setI, xE_setR, xsz_setR, xsl_setR, xtag_setR, xown_setR, xlen_setR, xE_setW, xsz_setW, xsl_setW, xtag_setW, xown_setW, xlen_setW, xi_setR, xi_setW, xr_setI, xr_setW, xww_setI, xww_setR, xi_setI, xr_setR, xww_setW, xE_new, xsz_new, xsl_new, s1, s3, s7, s5, s4] <;> rfl)) (by simp [-List.getD_eq_getElem?_getD, xE_setI, xsz_setI, xsl_setI, xtag_setI, xown_setI, xlen_setI, xE_setR, xsz_setR, xsl_setR, xtag_setR, xown_setR, xlen_setR, xE_setW, xsz_setW, xsl_setW, xtag_setW, xown_setW, xlen_setW, xi_setR, xi_setW, xr_setI, xr_setW, xww_setI, xww_setR, xi_setI, xr_setR, xww_setW, xE_new, xsz_new, xsl_new, s1, s3, s7, s5, s4]) ?_
  refine xw_aload_n (pc := 14) dJ7_charAt_14 0 rfl ?_
  refine xw_alen (q := 2) (pc := 15) dJ7_charAt_15 (by simp [-List.getD_eq_getElem?_getD, xE_setI, xsz_setI, xsl_setI, xtag_setI, xown_setI, xlen_setI, xE_setR, xsz_setR, xsl_setR, xtag_setR, xown_setR, xlen_setR, xE_setW, xsz_setW, xsl_setW, xtag_setW, xown_setW, xlen_setW, xi_setR, xi_setW, xr_setI, xr_setW, xww_setI, xww_setR, xi_setI, xr_setR, xww_setW, xE_new, xsz_new, xsl_new, s1, s3, s7, s5, s4]) (by first | decide | omega) ?_
  rw [show xlen _ v = (xlen g v) from by simp [-List.getD_eq_getElem?_getD, xE_setI, xsz_setI, xsl_setI, xtag_setI, xown_setI, xlen_setI, xE_setR, xsz_setR, xsl_setR, xtag_setR, xown_setR, xlen_setR, xE_setW, xsz_setW, xsl_setW, xtag_setW, xown_setW, xlen_setW, xi_setR, xi_setW, xr_setI, xr_setW, xww_setI, xww_setR, xi_setI, xr_setR, xww_setW, xE_new, xsz_new, xsl_new, s1, s3, s7, s5, s4]]
  refine xw_iload_n (pc := 16) dJ7_charAt_16 1 rfl ?_
  refine xn_ishr (c := (xlen g v)) (pc := 17) dJ7_charAt_17 (by decide) (by first | omega | (simp; done) | (simp; omega)) (by omega) ?_
  refine xn_mmin (pc := 18) dJ7_charAt_18 q1952 q106 (Nat.le_of_ble_eq_true rfl) (by omega) (by omega) ?_
  refine xw_istore (l' := [(4, _), (3, _), (2, _), (0, _), (1, _)]) (pc := 21) dJ7_charAt_21 (by decide) rfl ?_
  refine xw_iload_n (pc := 23) dJ7_charAt_23 4 rfl ?_
  refine xw_iload (pc := 24) dJ7_charAt_24 0 rfl ?_
  refine xw_callU (pc := 26) (xr_S (as := [_, _]) ok_J9_checkIndex rfl (by decide) q1953 q1827 dJ7_charAt_26 rfl rfl (Nat.le_of_ble_eq_true rfl)) (SP_J9_checkIndex (by omega) (by omega)) ?_
  refine xw_iload_n (pc := 29) dJ7_charAt_29 2 rfl ?_
  refine xw_if_ne (pc := 30) 42 dJ7_charAt_30 rfl (fun hb => absurd hb (by decide)) (fun _ => ?_)
  refine xw_aload_n (pc := 33) dJ7_charAt_33 1 rfl ?_
  refine xw_iload_n (pc := 34) dJ7_charAt_34 4 rfl ?_
  refine xw_bald (k := k) (pc := 35) dJ7_charAt_35 (by simp [-List.getD_eq_getElem?_getD, xE_setI, xsz_setI, xsl_setI, xtag_setI, xown_setI, xlen_setI, xE_setR, xsz_setR, xsl_setR, xtag_setR, xown_setR, xlen_setR, xE_setW, xsz_setW, xsl_setW, xtag_setW, xown_setW, xlen_setW, xi_setR, xi_setW, xr_setI, xr_setW, xww_setI, xww_setR, xi_setI, xr_setR, xww_setW, xE_new, xsz_new, xsl_new, s1, s3, s7, s5, s4]) rfl (by omega) ?_
  rw [hck.2]
  refine xw_sipush (v := nI 255) (pc := 36) dJ7_charAt_36 (by decide +kernel) ?_
  refine xw_iand (pc := 39) dJ7_charAt_39 ?_
  rw [bt_and, Nat.mod_eq_of_lt hck.1]
  refine xw_i2c (pc := 40) dJ7_charAt_40 ?_
  rw [nI_i2c (by omega)]
  refine xw_iret (pc := 41) .char dJ7_charAt_41 rfl ?_ (by exact nI_chr (by omega))
  exact ⟨rfl, rfl⟩

theorem SP_J7_charAtU {d : Nat} {g : xG} {k : Nat} {o b v n : Nat} {ch : Nat → Nat} (hS : xBU g o b v n ch) (hk : k < n) : XM M_J7_charAt (d + 2) [.ref b, .int (nI k)] g (xOne (some (.int (nI (ch k)))) g) := by
  have hS0 := hS
  obtain ⟨⟨s1, s2, s3, s7, s5, s6⟩, s4, s8, s9, s10⟩ := hS
  have hck := s10 k hk
  refine xm_of (by decide +kernel) (Nat.le_of_ble_eq_true rfl) ?_
  show XW _ _ 0 [(0, _), (1, _)] [] _ _
  refine xw_aload_n (pc := 0) dJ7_charAt_0 0 rfl ?_
  refine xw_getNat (k := 1) (pc := 1) fd_J7_22 dJ7_charAt_1 (by first | assumption | (simp [-List.getD_eq_getElem?_getD, xE_setI, xsz_setI, xsl_setI, xtag_setI, xown_setI, xlen_setI, xE_setR, xsz_setR, xsl_setR, xtag_setR, xown_setR, xlen_setR, xE_setW, xsz_setW, xsl_setW, xtag_setW, xown_setW, xlen_setW, xi_setR, xi_setW, xr_setI, xr_setW, xww_setI, xww_setR, xi_setI, xr_setR, xww_setW, xE_new, xsz_new, xsl_new, s1, s3, s7, s5, s4, xsub]; done) | (simp [-List.getD_eq_getElem?_getD, xE_setI, xsz_setI, xsl_setI, xtag_setI, xown_setI, xlen_setI, xE_setR, xsz_setR, xsl_setR, xtag_setR, xown_setR, xlen_setR, xE_setW, xsz_setW, xsl_setW, xtag_setW, xown_setW, xlen_setW, xi_setR, xi_setW, xr_setI, xr_setW, xww_setI, xww_setR, xi_setI, xr_setR, xww_setW, xE_new, xsz_new, xsl_new, s1, s3, s7, s5, s4] <;> rfl)) (by simp [-List.getD_eq_getElem?_getD, xE_setI, xsz_setI, xsl_setI, xtag_setI, xown_setI, xlen_setI, xE_setR, xsz_setR, xsl_setR, xtag_setR, xown_setR, xlen_setR, xE_setW, xsz_setW, xsl_setW, xtag_setW, xown_setW, xlen_setW, xi_setR, xi_setW, xr_setI, xr_setW, xww_setI, xww_setR, xi_setI, xr_setR, xww_setW, xE_new, xsz_new, xsl_new, s1, s3, s7, s5, s4]) ?_
  refine xw_istore_n (l' := [(2, _), (0, _), (1, _)]) (pc := 4) dJ7_charAt_4 rfl (by decide) rfl ?_
  refine xw_aload_n (pc := 5) dJ7_charAt_5 1 rfl ?_
  refine xw_getS (b := v) (pc := 6) fd_J7_15 dJ7_charAt_6 (by first | assumption | (simp [-List.getD_eq_getElem?_getD, xE_setI, xsz_setI, xsl_setI, xtag_setI, xown_setI, xlen_setI, xE_setR, xsz_setR, xsl_setR, xtag_setR, xown_setR, xlen_setR, xE_setW, xsz_setW, xsl_setW, xtag_setW, xown_setW, xlen_setW, xi_setR, xi_setW, xr_setI, xr_setW, xww_setI, xww_setR, xi_setI, xr_setR, xww_setW, xE_new, xsz_new, xsl_new, s1, s3, s7, s5, s4, xsub]; done) | (simp [-List.getD_eq_getElem?_getD, xE_setI, xsz_setI, xsl_setI, xtag_setI, xown_setI, xlen_setI, xE_setR, xsz_setR, xsl_setR, xtag_setR, xown_setR, xlen_setR, xE_setW, xsz_setW, xsl_setW, xtag_setW, xown_setW, xlen_setW, xi_setR, xi_setW, xr_setI, xr_setW, xww_setI, xww_setR, xi_setI, xr_setR, xww_setW, xE_new, xsz_new, xsl_new, s1, s3, s7, s5, s4] <;> rfl)) (by simp [-List.getD_eq_getElem?_getD, xE_setI, xsz_setI, xsl_setI, xtag_setI, xown_setI, xlen_setI, xE_setR, xsz_setR, xsl_setR, xtag_setR, xown_setR, xlen_setR, xE_setW, xsz_setW, xsl_setW, xtag_setW, xown_setW, xlen_setW, xi_setR, xi_setW, xr_setI, xr_setW, xww_setI, xww_setR, xi_setI, xr_setR, xww_setW, xE_new, xsz_new, xsl_new, s1, s3, s7, s5, s4]) ?_
  refine xw_astore_n (l' := [(3, _), (2, _), (0, _), (1, _)]) (pc := 9) dJ7_charAt_9 rfl (by decide) rfl ?_
  refine xw_aload_n (pc := 10) dJ7_charAt_10 2 rfl ?_
  refine xw_getNat (k := n) (pc := 11) fd_J7_79 dJ7_charAt_11 (by first | assumption | (simp [-List.getD_eq_getElem?_getD, xE_setI, xsz_setI, xsl_setI, xtag_setI, xown_setI, xlen_setI, xE_setR, xsz_setR, xsl_setR, xtag_setR, xown_setR, xlen_setR, xE_setW, xsz_setW, xsl_setW, xtag_setW, xown_setW, xlen_setW, xi_setR, xi_setW, xr_setI, xr_setW, xww_setI, xww_setR, xi_setI, xr_setR, xww_setW, xE_new, xsz_new, xsl_new, s1, s3, s7, s5, s4, xsub]; done) | (simp [-List.getD_eq_getElem?_getD, xE_setI, xsz_setI, xsl_setI, xtag_setI, xown_setI, xlen_setI, xE_setR, xsz_setR, xsl_setR, xtag_setR, xown_setR, xlen_setR, xE_setW, xsz_setW, xsl_setW, xtag_setW, xown_setW, xlen_setW, xi_setR, xi_setW, xr_setI, xr_setW, xww_setI, xww_setR, xi_setI, xr_setR, xww_setW, xE_new, xsz_new, xsl_new, s1, s3, s7, s5, s4] <;> rfl)) (by simp [-List.getD_eq_getElem?_getD, xE_setI, xsz_setI, xsl_setI, xtag_setI, xown_setI, xlen_setI, xE_setR, xsz_setR, xsl_setR, xtag_setR, xown_setR, xlen_setR, xE_setW, xsz_setW, xsl_setW, xtag_setW, xown_setW, xlen_setW, xi_setR, xi_setW, xr_setI, xr_setW, xww_setI, xww_setR, xi_setI, xr_setR, xww_setW, xE_new, xsz_new, xsl_new, s1, s3, s7, s5, s4]) ?_
  refine xw_aload_n (pc := 14) dJ7_charAt_14 0 rfl ?_
  refine xw_alen (q := 2) (pc := 15) dJ7_charAt_15 (by simp [-List.getD_eq_getElem?_getD, xE_setI, xsz_setI, xsl_setI, xtag_setI, xown_setI, xlen_setI, xE_setR, xsz_setR, xsl_setR, xtag_setR, xown_setR, xlen_setR, xE_setW, xsz_setW, xsl_setW, xtag_setW, xown_setW, xlen_setW, xi_setR, xi_setW, xr_setI, xr_setW, xww_setI, xww_setR, xi_setI, xr_setR, xww_setW, xE_new, xsz_new, xsl_new, s1, s3, s7, s5, s4]) (by first | decide | omega) ?_
  rw [show xlen _ v = (xlen g v) from by simp [-List.getD_eq_getElem?_getD, xE_setI, xsz_setI, xsl_setI, xtag_setI, xown_setI, xlen_setI, xE_setR, xsz_setR, xsl_setR, xtag_setR, xown_setR, xlen_setR, xE_setW, xsz_setW, xsl_setW, xtag_setW, xown_setW, xlen_setW, xi_setR, xi_setW, xr_setI, xr_setW, xww_setI, xww_setR, xi_setI, xr_setR, xww_setW, xE_new, xsz_new, xsl_new, s1, s3, s7, s5, s4]]
  refine xw_iload_n (pc := 16) dJ7_charAt_16 1 rfl ?_
  refine xn_ishr (c := ((xlen g v) / 2)) (pc := 17) dJ7_charAt_17 (by decide) (by first | omega | (simp; done) | (simp; omega)) (by omega) ?_
  refine xn_mmin (pc := 18) dJ7_charAt_18 q1952 q106 (Nat.le_of_ble_eq_true rfl) (by omega) (by omega) ?_
  refine xw_istore (l' := [(4, _), (3, _), (2, _), (0, _), (1, _)]) (pc := 21) dJ7_charAt_21 (by decide) rfl ?_
  refine xw_iload_n (pc := 23) dJ7_charAt_23 4 rfl ?_
  refine xw_iload (pc := 24) dJ7_charAt_24 0 rfl ?_
  refine xw_callU (pc := 26) (xr_S (as := [_, _]) ok_J9_checkIndex rfl (by decide) q1953 q1827 dJ7_charAt_26 rfl rfl (Nat.le_of_ble_eq_true rfl)) (SP_J9_checkIndex (by omega) (by omega)) ?_
  refine xw_iload_n (pc := 29) dJ7_charAt_29 2 rfl ?_
  refine xw_if_ne (pc := 30) 42 dJ7_charAt_30 rfl (fun _ => ?_) (fun hb => absurd hb (by decide))
  refine xw_aload_n (pc := 42) dJ7_charAt_42 1 rfl ?_
  refine xw_iload_n (pc := 43) dJ7_charAt_43 4 rfl ?_
  refine xw_callV (pc := 44) (xr_S (as := [_, _]) ok_J10_getChar rfl (by decide) q1954 q474 dJ7_charAt_44 rfl rfl (Nat.le_of_ble_eq_true rfl)) (SP_J10_getChar s5 (by omega) (by omega) hck.1 hck.2.1 hck.2.2) ?_
  refine xw_iret (pc := 47) .char dJ7_charAt_47 rfl ?_ (by exact nI_chr hck.1)
  exact ⟨rfl, rfl⟩

theorem SP_J7_charAt {d : Nat} {g : xG} {k : Nat} {o b n : Nat} {ch : Nat → Nat} (hB : xBd g o b n ch) (hk : k < n) : XM M_J7_charAt (d + 2) [.ref b, .int (nI k)] g (xOne (some (.int (nI (ch k)))) g) := by
  obtain ⟨v, h | h⟩ := hB
  · exact SP_J7_charAtL h hk
  · exact SP_J7_charAtU h hk
theorem xBd.chr {g : xG} {o b n : Nat} {ch : Nat → Nat} (h : xBd g o b n ch) {k : Nat} (hk : k < n) : ch k < 65536 := by
  obtain ⟨v, h | h⟩ := h
  · have := (h.2.2.2.2 k hk).1
    omega
  · exact (h.2.2.2.2 k hk).1
theorem SP_J8_charAt {d : Nat} {g : xG} {k : Nat} {o b n : Nat} {ch : Nat → Nat} (hB : xBd g o b n ch) (hk : k < n) : XM M_J8_charAt (d + 3) [.ref b, .int (nI k)] g (xOne (some (.int (nI (ch k)))) g) := by
  refine xm_of (by decide +kernel) (Nat.le_of_ble_eq_true rfl) ?_
  show XW _ _ 0 [(0, _), (1, _)] [] _ _
  refine xw_aload_n (pc := 0) dJ8_charAt_0 0 rfl ?_
  refine xw_iload_n (pc := 1) dJ8_charAt_1 1 rfl ?_
  refine xw_callV (pc := 2) (xr_SU (as := [_]) ok_J7_charAt rfl (by decide) q1949 q2781 q251 q1950 (by decide) (by exact hB.tag) dJ8_charAt_2 rfl rfl (Nat.le_of_ble_eq_true rfl)) (SP_J7_charAt hB hk) ?_
  refine xw_iret (pc := 5) .char dJ8_charAt_5 rfl ?_ (by exact nI_chr (hB.chr hk))
  exact ⟨rfl, rfl⟩

theorem SP_J8_len {d : Nat} {g : xG} {o b n : Nat} {ch : Nat → Nat} (hB : xBd g o b n ch) : XM M_J8_length (d + 1) [.ref b] g (xOne (some (.int (nI n))) g) := by
  obtain ⟨v, h0⟩ := hB.b0
  refine xm_of (by decide +kernel) (Nat.le_of_ble_eq_true rfl) ?_
  show XW _ _ 0 [(0, _)] [] _ _
  refine xw_aload_n (pc := 0) dJ8_length_0 0 rfl ?_
  refine xw_callV (pc := 1) (xr_SU (as := []) ok_J7_length rfl (by decide) q423 q419 q251 q418 (by decide) (by exact hB.tag) dJ8_length_1 rfl rfl (Nat.le_of_ble_eq_true rfl)) (SP_J7_length h0) ?_
  refine xw_iret (pc := 4) .int dJ8_length_4 rfl ?_ 
  exact ⟨rfl, rfl⟩

theorem SP_J7_setLength_0 {d : Nat} {g : xG} {o b v n : Nat} {ch : Nat → Nat} (hS : xBL g o b v n ch) (ho : o ≠ 0) (hn : n < 2 ^ 20) : XM M_J7_setLength (d + 5) [.ref b, .int (nI 0)] g (xVoid (fun g' => xBL g' o b v 0 ch ∧ xFr (oEq o) 0 g g')) := by
  have hS0 := hS
  obtain ⟨⟨s1, s2, s3, s7, s5, s6⟩, s4, s8, s9, s10⟩ := hS
  have s2n : xown g b ≠ 0 := by rw [s2]; exact ho
  refine xm_of (by decide +kernel) (Nat.le_of_ble_eq_true rfl) ?_
  show XW _ _ 0 [(0, _), (1, _)] [] _ _
  refine xw_iload_n (pc := 0) dJ7_setLength_0 1 rfl ?_
  refine xw_if_ge (pc := 1) 13 dJ7_setLength_1 rfl (fun _ => ?_) (fun hb => absurd hb (by decide))
  refine xw_aload_n (pc := 13) dJ7_setLength_13 0 rfl ?_
  refine xw_iload_n (pc := 14) dJ7_setLength_14 1 rfl ?_
  refine xw_callU (pc := 15) (xr_UP (as := [_]) ok_J7_ensureCapacityInternal rfl (by decide) q265 q2767 q268 q267 (by rw [s1]; rfl) (by rw [s1]; exact q221) q266 dJ7_setLength_15 rfl rfl (Nat.le_of_ble_eq_true rfl)) (SP_J7_ensureN_0 s1 s3 s5 s4 s9 (by omega)) ?_
  refine xw_aload_n (pc := 18) dJ7_setLength_18 0 rfl ?_
  refine xw_getNat (k := n) (pc := 19) fd_J7_79 dJ7_setLength_19 (by first | assumption | (simp [-List.getD_eq_getElem?_getD, xE_setI, xsz_setI, xsl_setI, xtag_setI, xown_setI, xlen_setI, xE_setR, xsz_setR, xsl_setR, xtag_setR, xown_setR, xlen_setR, xE_setW, xsz_setW, xsl_setW, xtag_setW, xown_setW, xlen_setW, xi_setR, xi_setW, xr_setI, xr_setW, xww_setI, xww_setR, xi_setI, xr_setR, xww_setW, xE_new, xsz_new, xsl_new, s1, s3, s7, s5, s4, s2n, xsub]; done) | (simp [-List.getD_eq_getElem?_getD, xE_setI, xsz_setI, xsl_setI, xtag_setI, xown_setI, xlen_setI, xE_setR, xsz_setR, xsl_setR, xtag_setR, xown_setR, xlen_setR, xE_setW, xsz_setW, xsl_setW, xtag_setW, xown_setW, xlen_setW, xi_setR, xi_setW, xr_setI, xr_setW, xww_setI, xww_setR, xi_setI, xr_setR, xww_setW, xE_new, xsz_new, xsl_new, s1, s3, s7, s5, s4, s2n] <;> rfl)) (by simp [-List.getD_eq_getElem?_getD, xE_setI, xsz_setI, xsl_setI, xtag_setI, xown_setI, xlen_setI, xE_setR, xsz_setR, xsl_setR, xtag_setR, xown_setR, xlen_setR, xE_setW, xsz_setW, xsl_setW, xtag_setW, xown_setW, xlen_setW, xi_setR, xi_setW, xr_setI, xr_setW, xww_setI, xww_setR, xi_setI, xr_setR, xww_setW, xE_new, xsz_new, xsl_new, s1, s3, s7, s5, s4, s2n]) ?_
  refine xw_iload_n (pc := 22) dJ7_setLength_22 1 rfl ?_
  refine xw_icmp_ge (pc := 23) 63 dJ7_setLength_23 rfl (fun hb23 => ?_) (fun hb23 => ?_)
  rotate_left
  · exfalso
    replace hb23 : ¬ (0 ≤ n) := mt (nI_leI (a := 0) (b := n) (by omega) (by omega)).mpr hb23
    omega
  replace hb23 : 0 ≤ n := (nI_leI (a := 0) (b := n) (by omega) (by omega)).mp hb23
  refine xw_aload_n (pc := 63) dJ7_setLength_63 0 rfl ?_
  refine xw_getNat (k := n) (pc := 64) fd_J7_79 dJ7_setLength_64 (by first | assumption | (simp [-List.getD_eq_getElem?_getD, xE_setI, xsz_setI, xsl_setI, xtag_setI, xown_setI, xlen_setI, xE_setR, xsz_setR, xsl_setR, xtag_setR, xown_setR, xlen_setR, xE_setW, xsz_setW, xsl_setW, xtag_setW, xown_setW, xlen_setW, xi_setR, xi_setW, xr_setI, xr_setW, xww_setI, xww_setR, xi_setI, xr_setR, xww_setW, xE_new, xsz_new, xsl_new, s1, s3, s7, s5, s4, s2n, xsub]; done) | (simp [-List.getD_eq_getElem?_getD, xE_setI, xsz_setI, xsl_setI, xtag_setI, xown_setI, xlen_setI, xE_setR, xsz_setR, xsl_setR, xtag_setR, xown_setR, xlen_setR, xE_setW, xsz_setW, xsl_setW, xtag_setW, xown_setW, xlen_setW, xi_setR, xi_setW, xr_setI, xr_setW, xww_setI, xww_setR, xi_setI, xr_setR, xww_setW, xE_new, xsz_new, xsl_new, s1, s3, s7, s5, s4, s2n] <;> rfl)) (by simp [-List.getD_eq_getElem?_getD, xE_setI, xsz_setI, xsl_setI, xtag_setI, xown_setI, xlen_setI, xE_setR, xsz_setR, xsl_setR, xtag_setR, xown_setR, xlen_setR, xE_setW, xsz_setW, xsl_setW, xtag_setW, xown_setW, xlen_setW, xi_setR, xi_setW, xr_setI, xr_setW, xww_setI, xww_setR, xi_setI, xr_setR, xww_setW, xE_new, xsz_new, xsl_new, s1, s3, s7, s5, s4, s2n]) ?_
  refine xw_iload_n (pc := 67) dJ7_setLength_67 1 rfl ?_
  refine xw_icmp_le (pc := 68) 76 dJ7_setLength_68 rfl (fun hb68 => ?_) (fun hb68 => ?_)
  · replace hb68 : n ≤ 0 := (nI_leI (a := n) (b := 0) (by omega) (by omega)).mp hb68
    refine xw_aload_n (pc := 76) dJ7_setLength_76 0 rfl ?_
    refine xw_iload_n (pc := 77) dJ7_setLength_77 1 rfl ?_
    refine xw_putI (pc := 78) fd_J7_79 (xfin_of (by decide) (by decide +kernel)) dJ7_setLength_78 (by first | assumption | (simp [-List.getD_eq_getElem?_getD, xE_setI, xsz_setI, xsl_setI, xtag_setI, xown_setI, xlen_setI, xE_setR, xsz_setR, xsl_setR, xtag_setR, xown_setR, xlen_setR, xE_setW, xsz_setW, xsl_setW, xtag_setW, xown_setW, xlen_setW, xi_setR, xi_setW, xr_setI, xr_setW, xww_setI, xww_setR, xi_setI, xr_setR, xww_setW, xE_new, xsz_new, xsl_new, s1, s3, s7, s5, s4, s2n, xsub]; done) | (simp [-List.getD_eq_getElem?_getD, xE_setI, xsz_setI, xsl_setI, xtag_setI, xown_setI, xlen_setI, xE_setR, xsz_setR, xsl_setR, xtag_setR, xown_setR, xlen_setR, xE_setW, xsz_setW, xsl_setW, xtag_setW, xown_setW, xlen_setW, xi_setR, xi_setW, xr_setI, xr_setW, xww_setI, xww_setR, xi_setI, xr_setR, xww_setW, xE_new, xsz_new, xsl_new, s1, s3, s7, s5, s4, s2n] <;> rfl)) (by first | assumption | (simp [-List.getD_eq_getElem?_getD, xE_setI, xsz_setI, xsl_setI, xtag_setI, xown_setI, xlen_setI, xE_setR, xsz_setR, xsl_setR, xtag_setR, xown_setR, xlen_setR, xE_setW, xsz_setW, xsl_setW, xtag_setW, xown_setW, xlen_setW, xi_setR, xi_setW, xr_setI, xr_setW, xww_setI, xww_setR, xi_setI, xr_setR, xww_setW, xE_new, xsz_new, xsl_new, s1, s3, s7, s5, s4, s2n]; done) | (simp [-List.getD_eq_getElem?_getD, xE_setI, xsz_setI, xsl_setI, xtag_setI, xown_setI, xlen_setI, xE_setR, xsz_setR, xsl_setR, xtag_setR, xown_setR, xlen_setR, xE_setW, xsz_setW, xsl_setW, xtag_setW, xown_setW, xlen_setW, xi_setR, xi_setW, xr_setI, xr_setW, xww_setI, xww_setR, xi_setI, xr_setR, xww_setW, xE_new, xsz_new, xsl_new, s1, s3, s7, s5, s4, s2n]; assumption)) ?_
    refine xw_vret (pc := 81) dJ7_setLength_81 rfl ?_
    first
    | exact ⟨rfl, hS0.cut (Nat.zero_le _), xFr.rf.si (Or.inr s2)⟩
    | exact ⟨rfl, hS0.may.cut (Nat.zero_le _), (xFr.rf.si (Or.inr s2)).si (Or.inr (by rw [xown_setI]; exact s2))⟩
  · replace hb68 : ¬ (n ≤ 0) := mt (nI_leI (a := n) (b := 0) (by omega) (by omega)).mpr hb68
    refine xw_aload_n (pc := 71) dJ7_setLength_71 0 rfl ?_
    refine xw_iconst (v := nI 1) (pc := 72) dJ7_setLength_72 rfl ?_
    refine xw_putI (pc := 73) fd_J7_73 (xfin_of (by decide) (by decide +kernel)) dJ7_setLength_73 (by first | assumption | (simp [-List.getD_eq_getElem?_getD, xE_setI, xsz_setI, xsl_setI, xtag_setI, xown_setI, xlen_setI, xE_setR, xsz_setR, xsl_setR, xtag_setR, xown_setR, xlen_setR, xE_setW, xsz_setW, xsl_setW, xtag_setW, xown_setW, xlen_setW, xi_setR, xi_setW, xr_setI, xr_setW, xww_setI, xww_setR, xi_setI, xr_setR, xww_setW, xE_new, xsz_new, xsl_new, s1, s3, s7, s5, s4, s2n, xsub]; done) | (simp [-List.getD_eq_getElem?_getD, xE_setI, xsz_setI, xsl_setI, xtag_setI, xown_setI, xlen_setI, xE_setR, xsz_setR, xsl_setR, xtag_setR, xown_setR, xlen_setR, xE_setW, xsz_setW, xsl_setW, xtag_setW, xown_setW, xlen_setW, xi_setR, xi_setW, xr_setI, xr_setW, xww_setI, xww_setR, xi_setI, xr_setR, xww_setW, xE_new, xsz_new, xsl_new, s1, s3, s7, s5, s4, s2n] <;> rfl)) (by first | assumption | (simp [-List.getD_eq_getElem?_getD, xE_setI, xsz_setI, xsl_setI, xtag_setI, xown_setI, xlen_setI, xE_setR, xsz_setR, xsl_setR, xtag_setR, xown_setR, xlen_setR, xE_setW, xsz_setW, xsl_setW, xtag_setW, xown_setW, xlen_setW, xi_setR, xi_setW, xr_setI, xr_setW, xww_setI, xww_setR, xi_setI, xr_setR, xww_setW, xE_new, xsz_new, xsl_new, s1, s3, s7, s5, s4, s2n]; done) | (simp [-List.getD_eq_getElem?_getD, xE_setI, xsz_setI, xsl_setI, xtag_setI, xown_setI, xlen_setI, xE_setR, xsz_setR, xsl_setR, xtag_setR, xown_setR, xlen_setR, xE_setW, xsz_setW, xsl_setW, xtag_setW, xown_setW, xlen_setW, xi_setR, xi_setW, xr_setI, xr_setW, xww_setI, xww_setR, xi_setI, xr_setR, xww_setW, xE_new, xsz_new, xsl_new, s1, s3, s7, s5, s4, s2n]; assumption)) ?_
    refine xw_aload_n (pc := 76) dJ7_setLength_76 0 rfl ?_
    refine xw_iload_n (pc := 77) dJ7_setLength_77 1 rfl ?_
    refine xw_putI (pc := 78) fd_J7_79 (xfin_of (by decide) (by decide +kernel)) dJ7_setLength_78 (by first | assumption | (simp [-List.getD_eq_getElem?_getD, xE_setI, xsz_setI, xsl_setI, xtag_setI, xown_setI, xlen_setI, xE_setR, xsz_setR, xsl_setR, xtag_setR, xown_setR, xlen_setR, xE_setW, xsz_setW, xsl_setW, xtag_setW, xown_setW, xlen_setW, xi_setR, xi_setW, xr_setI, xr_setW, xww_setI, xww_setR, xi_setI, xr_setR, xww_setW, xE_new, xsz_new, xsl_new, s1, s3, s7, s5, s4, s2n, xsub]; done) | (simp [-List.getD_eq_getElem?_getD, xE_setI, xsz_setI, xsl_setI, xtag_setI, xown_setI, xlen_setI, xE_setR, xsz_setR, xsl_setR, xtag_setR, xown_setR, xlen_setR, xE_setW, xsz_setW, xsl_setW, xtag_setW, xown_setW, xlen_setW, xi_setR, xi_setW, xr_setI, xr_setW, xww_setI, xww_setR, xi_setI, xr_setR, xww_setW, xE_new, xsz_new, xsl_new, s1, s3, s7, s5, s4, s2n] <;> rfl)) (by first | assumption | (simp [-List.getD_eq_getElem?_getD, xE_setI, xsz_setI, xsl_setI, xtag_setI, xown_setI, xlen_setI, xE_setR, xsz_setR, xsl_setR, xtag_setR, xown_setR, xlen_setR, xE_setW, xsz_setW, xsl_setW, xtag_setW, xown_setW, xlen_setW, xi_setR, xi_setW, xr_setI, xr_setW, xww_setI, xww_setR, xi_setI, xr_setR, xww_setW, xE_new, xsz_new, xsl_new, s1, s3, s7, s5, s4, s2n]; done) | (simp [-List.getD_eq_getElem?_getD, xE_setI, xsz_setI, xsl_setI, xtag_setI, xown_setI, xlen_setI, xE_setR, xsz_setR, xsl_setR, xtag_setR, xown_setR, xlen_setR, xE_setW, xsz_setW, xsl_setW, xtag_setW, xown_setW, xlen_setW, xi_setR, xi_setW, xr_setI, xr_setW, xww_setI, xww_setR, xi_setI, xr_setR, xww_setW, xE_new, xsz_new, xsl_new, s1, s3, s7, s5, s4, s2n]; assumption)) ?_
    refine xw_vret (pc := 81) dJ7_setLength_81 rfl ?_
    first
    | exact ⟨rfl, hS0.cut (Nat.zero_le _), xFr.rf.si (Or.inr s2)⟩
    | exact ⟨rfl, hS0.may.cut (Nat.zero_le _), (xFr.rf.si (Or.inr s2)).si (Or.inr (by rw [xown_setI]; exact s2))⟩

theorem SP_J7_setLength_1 {d : Nat} {g : xG} {o b v n : Nat} {ch : Nat → Nat} (hS : xBU g o b v n ch) (ho : o ≠ 0) (hn : n < 2 ^ 20) : XM M_J7_setLength (d + 5) [.ref b, .int (nI 0)] g (xVoid (fun g' => xBU g' o b v 0 ch ∧ xFr (oEq o) 0 g g')) := by
  have hS0 := hS
  obtain ⟨⟨s1, s2, s3, s7, s5, s6⟩, s4, s8, s9, s10⟩ := hS
  have s2n : xown g b ≠ 0 := by rw [s2]; exact ho
  refine xm_of (by decide +kernel) (Nat.le_of_ble_eq_true rfl) ?_
  show XW _ _ 0 [(0, _), (1, _)] [] _ _
  refine xw_iload_n (pc := 0) dJ7_setLength_0 1 rfl ?_
  refine xw_if_ge (pc := 1) 13 dJ7_setLength_1 rfl (fun _ => ?_) (fun hb => absurd hb (by decide))
  refine xw_aload_n (pc := 13) dJ7_setLength_13 0 rfl ?_
  refine xw_iload_n (pc := 14) dJ7_setLength_14 1 rfl ?_
  refine xw_callU (pc := 15) (xr_UP (as := [_]) ok_J7_ensureCapacityInternal rfl (by decide) q265 q2767 q268 q267 (by rw [s1]; rfl) (by rw [s1]; exact q221) q266 dJ7_setLength_15 rfl rfl (Nat.le_of_ble_eq_true rfl)) (SP_J7_ensureN_1 s1 s3 s5 s4 s9 (by omega)) ?_
  refine xw_aload_n (pc := 18) dJ7_setLength_18 0 rfl ?_
  refine xw_getNat (k := n) (pc := 19) fd_J7_79 dJ7_setLength_19 (by first | assumption | (simp [-List.getD_eq_getElem?_getD, xE_setI, xsz_setI, xsl_setI, xtag_setI, xown_setI, xlen_setI, xE_setR, xsz_setR, xsl_setR, xtag_setR, xown_setR, xlen_setR, xE_setW, xsz_setW, xsl_setW, xtag_setW, xown_setW, xlen_setW, xi_setR, xi_setW, xr_setI, xr_setW, xww_setI, xww_setR, xi_setI, xr_setR, xww_setW, xE_new, xsz_new, xsl_new, s1, s3, s7, s5, s4, s2n, xsub]; done) | (simp [-List.getD_eq_getElem?_getD, xE_setI, xsz_setI, xsl_setI, xtag_setI, xown_setI, xlen_setI, xE_setR, xsz_setR, xsl_setR, xtag_setR, xown_setR, xlen_setR, xE_setW, xsz_setW, xsl_setW, xtag_setW, xown_setW, xlen_setW, xi_setR, xi_setW, xr_setI, xr_setW, xww_setI, xww_setR, xi_setI, xr_setR, xww_setW, xE_new, xsz_new, xsl_new, s1, s3, s7, s5, s4, s2n] <;> rfl)) (by simp [-List.getD_eq_getElem?_getD, xE_setI, xsz_setI, xsl_setI, xtag_setI, xown_setI, xlen_setI, xE_setR, xsz_setR, xsl_setR, xtag_setR, xown_setR, xlen_setR, xE_setW, xsz_setW, xsl_setW, xtag_setW, xown_setW, xlen_setW, xi_setR, xi_setW, xr_setI, xr_setW, xww_setI, xww_setR, xi_setI, xr_setR, xww_setW, xE_new, xsz_new, xsl_new, s1, s3, s7, s5, s4, s2n]) ?_
  refine xw_iload_n (pc := 22) dJ7_setLength_22 1 rfl ?_
  refine xw_icmp_ge (pc := 23) 63 dJ7_setLength_23 rfl (fun hb23 => ?_) (fun hb23 => ?_)
  rotate_left
  · exfalso
    replace hb23 : ¬ (0 ≤ n) := mt (nI_leI (a := 0) (b := n) (by omega) (by omega)).mpr hb23
    omega
  replace hb23 : 0 ≤ n := (nI_leI (a := 0) (b := n) (by omega) (by omega)).mp hb23
  refine xw_aload_n (pc := 63) dJ7_setLength_63 0 rfl ?_
  refine xw_getNat (k := n) (pc := 64) fd_J7_79 dJ7_setLength_64 (by first | assumption | (simp [-List.getD_eq_getElem?_getD, xE_setI, xsz_setI, xsl_setI, xtag_setI, xown_setI, xlen_setI, xE_setR, xsz_setR, xsl_setR, xtag_setR, xown_setR, xlen_setR, xE_setW, xsz_setW, xsl_setW, xtag_setW, xown_setW, xlen_setW, xi_setR, xi_setW, xr_setI, xr_setW, xww_setI, xww_setR, xi_setI, xr_setR, xww_setW, xE_new, xsz_new, xsl_new, s1, s3, s7, s5, s4, s2n, xsub]; done) | (simp [-List.getD_eq_getElem?_getD, xE_setI, xsz_setI, xsl_setI, xtag_setI, xown_setI, xlen_setI, xE_setR, xsz_setR, xsl_setR, xtag_setR, xown_setR, xlen_setR, xE_setW, xsz_setW, xsl_setW, xtag_setW, xown_setW, xlen_setW, xi_setR, xi_setW, xr_setI, xr_setW, xww_setI, xww_setR, xi_setI, xr_setR, xww_setW, xE_new, xsz_new, xsl_new, s1, s3, s7, s5, s4, s2n] <;> rfl)) (by simp [-List.getD_eq_getElem?_getD, xE_setI, xsz_setI, xsl_setI, xtag_setI, xown_setI, xlen_setI, xE_setR, xsz_setR, xsl_setR, xtag_setR, xown_setR, xlen_setR, xE_setW, xsz_setW, xsl_setW, xtag_setW, xown_setW, xlen_setW, xi_setR, xi_setW, xr_setI, xr_setW, xww_setI, xww_setR, xi_setI, xr_setR, xww_setW, xE_new, xsz_new, xsl_new, s1, s3, s7, s5, s4, s2n]) ?_
  refine xw_iload_n (pc := 67) dJ7_setLength_67 1 rfl ?_
  refine xw_icmp_le (pc := 68) 76 dJ7_setLength_68 rfl (fun hb68 => ?_) (fun hb68 => ?_)
  · replace hb68 : n ≤ 0 := (nI_leI (a := n) (b := 0) (by omega) (by omega)).mp hb68
    refine xw_aload_n (pc := 76) dJ7_setLength_76 0 rfl ?_
    refine xw_iload_n (pc := 77) dJ7_setLength_77 1 rfl ?_
    refine xw_putI (pc := 78) fd_J7_79 (xfin_of (by decide) (by decide +kernel)) dJ7_setLength_78 (by first | assumption | (simp [-List.getD_eq_getElem?_getD, xE_setI, xsz_setI, xsl_setI, xtag_setI, xown_setI, xlen_setI, xE_setR, xsz_setR, xsl_setR, xtag_setR, xown_setR, xlen_setR, xE_setW, xsz_setW, xsl_setW, xtag_setW, xown_setW, xlen_setW, xi_setR, xi_setW, xr_setI, xr_setW, xww_setI, xww_setR, xi_setI, xr_setR, xww_setW, xE_new, xsz_new, xsl_new, s1, s3, s7, s5, s4, s2n, xsub]; done) | (simp [-List.getD_eq_getElem?_getD, xE_setI, xsz_setI, xsl_setI, xtag_setI, xown_setI, xlen_setI, xE_setR, xsz_setR, xsl_setR, xtag_setR, xown_setR, xlen_setR, xE_setW, xsz_setW, xsl_setW, xtag_setW, xown_setW, xlen_setW, xi_setR, xi_setW, xr_setI, xr_setW, xww_setI, xww_setR, xi_setI, xr_setR, xww_setW, xE_new, xsz_new, xsl_new, s1, s3, s7, s5, s4, s2n] <;> rfl)) (by first | assumption | (simp [-List.getD_eq_getElem?_getD, xE_setI, xsz_setI, xsl_setI, xtag_setI, xown_setI, xlen_setI, xE_setR, xsz_setR, xsl_setR, xtag_setR, xown_setR, xlen_setR, xE_setW, xsz_setW, xsl_setW, xtag_setW, xown_setW, xlen_setW, xi_setR, xi_setW, xr_setI, xr_setW, xww_setI, xww_setR, xi_setI, xr_setR, xww_setW, xE_new, xsz_new, xsl_new, s1, s3, s7, s5, s4, s2n]; done) | (simp [-List.getD_eq_getElem?_getD, xE_setI, xsz_setI, xsl_setI, xtag_setI, xown_setI, xlen_setI, xE_setR, xsz_setR, xsl_setR, xtag_setR, xown_setR, xlen_setR, xE_setW, xsz_setW, xsl_setW, xtag_setW, xown_setW, xlen_setW, xi_setR, xi_setW, xr_setI, xr_setW, xww_setI, xww_setR, xi_setI, xr_setR, xww_setW, xE_new, xsz_new, xsl_new, s1, s3, s7, s5, s4, s2n]; assumption)) ?_
    refine xw_vret (pc := 81) dJ7_setLength_81 rfl ?_
    first
    | exact ⟨rfl, hS0.cut (Nat.zero_le _), xFr.rf.si (Or.inr s2)⟩
    | exact ⟨rfl, hS0.may.cut (Nat.zero_le _), (xFr.rf.si (Or.inr s2)).si (Or.inr (by rw [xown_setI]; exact s2))⟩
  · replace hb68 : ¬ (n ≤ 0) := mt (nI_leI (a := n) (b := 0) (by omega) (by omega)).mpr hb68
    refine xw_aload_n (pc := 71) dJ7_setLength_71 0 rfl ?_
    refine xw_iconst (v := nI 1) (pc := 72) dJ7_setLength_72 rfl ?_
    refine xw_putI (pc := 73) fd_J7_73 (xfin_of (by decide) (by decide +kernel)) dJ7_setLength_73 (by first | assumption | (simp [-List.getD_eq_getElem?_getD, xE_setI, xsz_setI, xsl_setI, xtag_setI, xown_setI, xlen_setI, xE_setR, xsz_setR, xsl_setR, xtag_setR, xown_setR, xlen_setR, xE_setW, xsz_setW, xsl_setW, xtag_setW, xown_setW, xlen_setW, xi_setR, xi_setW, xr_setI, xr_setW, xww_setI, xww_setR, xi_setI, xr_setR, xww_setW, xE_new, xsz_new, xsl_new, s1, s3, s7, s5, s4, s2n, xsub]; done) | (simp [-List.getD_eq_getElem?_getD, xE_setI, xsz_setI, xsl_setI, xtag_setI, xown_setI, xlen_setI, xE_setR, xsz_setR, xsl_setR, xtag_setR, xown_setR, xlen_setR, xE_setW, xsz_setW, xsl_setW, xtag_setW, xown_setW, xlen_setW, xi_setR, xi_setW, xr_setI, xr_setW, xww_setI, xww_setR, xi_setI, xr_setR, xww_setW, xE_new, xsz_new, xsl_new, s1, s3, s7, s5, s4, s2n] <;> rfl)) (by first | assumption | (simp [-List.getD_eq_getElem?_getD, xE_setI, xsz_setI, xsl_setI, xtag_setI, xown_setI, xlen_setI, xE_setR, xsz_setR, xsl_setR, xtag_setR, xown_setR, xlen_setR, xE_setW, xsz_setW, xsl_setW, xtag_setW, xown_setW, xlen_setW, xi_setR, xi_setW, xr_setI, xr_setW, xww_setI, xww_setR, xi_setI, xr_setR, xww_setW, xE_new, xsz_new, xsl_new, s1, s3, s7, s5, s4, s2n]; done) | (simp [-List.getD_eq_getElem?_getD, xE_setI, xsz_setI, xsl_setI, xtag_setI, xown_setI, xlen_setI, xE_setR, xsz_setR, xsl_setR, xtag_setR, xown_setR, xlen_setR, xE_setW, xsz_setW, xsl_setW, xtag_setW, xown_setW, xlen_setW, xi_setR, xi_setW, xr_setI, xr_setW, xww_setI, xww_setR, xi_setI, xr_setR, xww_setW, xE_new, xsz_new, xsl_new, s1, s3, s7, s5, s4, s2n]; assumption)) ?_
    refine xw_aload_n (pc := 76) dJ7_setLength_76 0 rfl ?_
    refine xw_iload_n (pc := 77) dJ7_setLength_77 1 rfl ?_
    refine xw_putI (pc := 78) fd_J7_79 (xfin_of (by decide) (by decide +kernel)) dJ7_setLength_78 (by first | assumption | (simp [-List.getD_eq_getElem?_getD, xE_setI, xsz_setI, xsl_setI, xtag_setI, xown_setI, xlen_setI, xE_setR, xsz_setR, xsl_setR, xtag_setR, xown_setR, xlen_setR, xE_setW, xsz_setW, xsl_setW, xtag_setW, xown_setW, xlen_setW, xi_setR, xi_setW, xr_setI, xr_setW, xww_setI, xww_setR, xi_setI, xr_setR, xww_setW, xE_new, xsz_new, xsl_new, s1, s3, s7, s5, s4, s2n, xsub]; done) | (simp [-List.getD_eq_getElem?_getD, xE_setI, xsz_setI, xsl_setI, xtag_setI, xown_setI, xlen_setI, xE_setR, xsz_setR, xsl_setR, xtag_setR, xown_setR, xlen_setR, xE_setW, xsz_setW, xsl_setW, xtag_setW, xown_setW, xlen_setW, xi_setR, xi_setW, xr_setI, xr_setW, xww_setI, xww_setR, xi_setI, xr_setR, xww_setW, xE_new, xsz_new, xsl_new, s1, s3, s7, s5, s4, s2n] <;> rfl)) (by first | assumption | (simp [-List.getD_eq_getElem?_getD, xE_setI, xsz_setI, xsl_setI, xtag_setI, xown_setI, xlen_setI, xE_setR, xsz_setR, xsl_setR, xtag_setR, xown_setR, xlen_setR, xE_setW, xsz_setW, xsl_setW, xtag_setW, xown_setW, xlen_setW, xi_setR, xi_setW, xr_setI, xr_setW, xww_setI, xww_setR, xi_setI, xr_setR, xww_setW, xE_new, xsz_new, xsl_new, s1, s3, s7, s5, s4, s2n]; done) | (simp [-List.getD_eq_getElem?_getD, xE_setI, xsz_setI, xsl_setI, xtag_setI, xown_setI, xlen_setI, xE_setR, xsz_setR, xsl_setR, xtag_setR, xown_setR, xlen_setR, xE_setW, xsz_setW, xsl_setW, xtag_setW, xown_setW, xlen_setW, xi_setR, xi_setW, xr_setI, xr_setW, xww_setI, xww_setR, xi_setI, xr_setR, xww_setW, xE_new, xsz_new, xsl_new, s1, s3, s7, s5, s4, s2n]; assumption)) ?_
    refine xw_vret (pc := 81) dJ7_setLength_81 rfl ?_
    first
    | exact ⟨rfl, hS0.cut (Nat.zero_le _), xFr.rf.si (Or.inr s2)⟩
    | exact ⟨rfl, hS0.may.cut (Nat.zero_le _), (xFr.rf.si (Or.inr s2)).si (Or.inr (by rw [xown_setI]; exact s2))⟩

theorem SP_J7_setLength {d : Nat} {g : xG} {o b n : Nat} {ch : Nat → Nat} (hB : xBd g o b n ch) (ho : o ≠ 0) (hn : n < 2 ^ 20) : XM M_J7_setLength (d + 5) [.ref b, .int (nI 0)] g (xVoid (fun g' => xBd g' o b 0 ch ∧ xFr (oEq o) 0 g g')) := by
  obtain ⟨v, h | h⟩ := hB
  · refine (SP_J7_setLength_0 (d := d) h ho hn).mono (fun rs g' h9 _ => ?_)
    obtain ⟨e, h1, hF⟩ := h9
    exact ⟨e, ⟨v, Or.inl h1⟩, hF⟩
  · refine (SP_J7_setLength_1 (d := d) h ho hn).mono (fun rs g' h9 _ => ?_)
    obtain ⟨e, h1, hF⟩ := h9
    exact ⟨e, ⟨v, Or.inr h1⟩, hF⟩
theorem SP_J8_setLength {d : Nat} {g : xG} {o b n : Nat} {ch : Nat → Nat} (hB : xBd g o b n ch) (ho : o ≠ 0) (hn : n < 2 ^ 20) : XM M_J8_setLength (d + 6) [.ref b, .int (nI 0)] g (xVoid (fun g' => xBd g' o b 0 ch ∧ xFr (oEq o) 0 g g')) := by
  refine xm_of (by decide +kernel) (Nat.le_of_ble_eq_true rfl) ?_
  show XW _ _ 0 [(0, _), (1, _)] [] _ _
  refine xw_aload_n (pc := 0) dJ8_setLength_0 0 rfl ?_
  refine xw_iload_n (pc := 1) dJ8_setLength_1 1 rfl ?_
  refine xw_callH (pc := 2) (xr_SU (as := [_]) ok_J7_setLength rfl (by decide) q2083 q2782 q251 q2084 (by decide) (by exact hB.tag) dJ8_setLength_2 rfl rfl (Nat.le_of_ble_eq_true rfl)) (SP_J7_setLength hB ho hn) ?_
  intro g2 hc2 hm2
  refine xw_vret (pc := 5) dJ8_setLength_5 rfl ?_
  exact ⟨rfl, hc2⟩

