/-! JDK 4: ArrayList, adding in general, removing -/
set_option maxRecDepth 100000
theorem xObj_lt {g : xG} {b : Nat} (h : xObj g b) : b < xsz g := xlt (fun e => by have h9 := h.1; rw [e] at h9; exact absurd h9 (by decide))
theorem xObj.fr {O : Nat → Prop} {n : Nat} {g g' : xG} {b : Nat} (h : xObj g b) (F : xFr O n g g') : xObj g' b := by
  unfold xObj
  rw [F.tag (xObj_lt h)]
  exact h
theorem x_added {g : xG} {o a arr b : Nat} {ls : List Nat} (h : xAL g o a arr ls) (hf : ls.length < xlen g arr) : xAL (xsetI (xsetR g arr ls.length (some b)) a 2 (nI (ls.length + 1))) o a arr (ls ++ [b]) ∧ xFr (oEq o) 0 g (xsetI (xsetR g arr ls.length (some b)) a 2 (nI (ls.length + 1))) := by
  obtain ⟨t1, t2, t3, t4, t5, t6, t7, t8, t9⟩ := h
  have hao : xown g arr = o := by rcases t6 with q | q; exact q; omega
  have hne : a ≠ arr := fun q => by rw [q, t5] at t1; cases t1
  have hta : xtag g arr ≠ 0 := by rw [t5]; decide
  refine ⟨⟨by simp only [xtag_setI, xtag_setR]; exact t1, by simp only [xown_setI, xown_setR]; exact t2, by rw [xr_setI, xr_setRN hne]; exact t3, by rw [xi_setIS (by simp only [xtag_setR]; rw [t1]; decide)]; simp, by simp only [xtag_setI, xtag_setR]; exact t5, by simp only [xown_setI, xown_setR]; exact Or.inl hao, by simp only [xlen_setI, xlen_setR, List.length_append, List.length_singleton]; omega, by simp only [xlen_setI, xlen_setR]; exact t8, fun i hi => ?_⟩, (xFr.rf.sr (Or.inr hao)).si (Or.inr (by rw [xown_setR]; exact t2))⟩
  rw [xr_setI, xr_setR hta]
  simp only [List.length_append, List.length_singleton] at hi
  by_cases hi2 : i = ls.length
  · subst hi2
    rw [if_pos ⟨rfl, rfl⟩]
    simp
  · rw [if_neg (fun q => hi2 q.2), t9 i (by omega)]
    rw [List.getD_eq_getElem?_getD, List.getD_eq_getElem?_getD, List.getElem?_append_left (by omega)]
theorem SP_J2_add_2G {d : Nat} {g : xG} {o a arr b : Nat} {ls : List Nat} (h : xAL g o a arr ls) (ho : o ≠ 0) (hel : ∀ i, i < ls.length → xObj g (ls.getD i 0)) (hb : xObj g b) (hf : ls.length = xlen g arr) (hm : ls.length < 100) : XM M_J2_add_2 (d + 5) [.ref a, .ref b, .ref arr, .int (nI ls.length)] g (xVoid (fun g' => ∃ arr', xAL g' o a arr' (ls ++ [b]) ∧ xlen g arr ≤ xlen g' arr' ∧ xFr (oEq o) 1000 g g')) := by
  have h0 := h
  obtain ⟨t1, t2, t3, t4, t5, t6, t7, t8, t9⟩ := h
  have hna : xown g a ≠ 0 := by rw [t2]; exact ho
  have ha : a < xsz g := xlt (by rw [t1]; decide)
  have hfs : xlen g arr = ls.length := hf.symm
  refine xm_of (by decide +kernel) (Nat.le_of_ble_eq_true rfl) ?_
  show XW _ _ 0 [(0, _), (1, _), (2, _), (3, _)] [] _ _
  refine xw_iload_n (pc := 0) dJ2_add_2_0 3 rfl ?_
  refine xw_aload_n (pc := 1) dJ2_add_2_1 2 rfl ?_
  refine xw_alen (q := 7) (pc := 2) dJ2_add_2_2 (by simp [xE_setI, xsz_setI, xsl_setI, xtag_setI, xown_setI, xlen_setI, xE_setR, xsz_setR, xsl_setR, xtag_setR, xown_setR, xlen_setR, xE_setW, xsz_setW, xsl_setW, xtag_setW, xown_setW, xlen_setW, xi_setR, xi_setW, xr_setI, xr_setW, xww_setI, xww_setR, xi_setI, xr_setR, xww_setW, xE_new, xsz_new, xsl_new, t1, t5, hfs]) (by decide) ?_
  rw [show xlen _ arr = ls.length from by simp [xE_setI, xsz_setI, xsl_setI, xtag_setI, xown_setI, xlen_setI, xE_setR, xsz_setR, xsl_setR, xtag_setR, xown_setR, xlen_setR, xE_setW, xsz_setW, xsl_setW, xtag_setW, xown_setW, xlen_setW, xi_setR, xi_setW, xr_setI, xr_setW, xww_setI, xww_setR, xi_setI, xr_setR, xww_setW, xE_new, xsz_new, xsl_new, t1, t5, hfs]]
  refine xw_icmp_ne (pc := 3) 11 dJ2_add_2_3 rfl (fun hb3 => ?_) (fun hb3 => ?_)
  · exfalso
    replace hb3 : ¬ (ls.length = ls.length) := mt (nI_eq (a := ls.length) (b := ls.length) (by (first | omega)) (by (first | omega))).mpr hb3
    exact hb3 rfl
  replace hb3 : ls.length = ls.length := (nI_eq (a := ls.length) (b := ls.length) (by (first | omega)) (by (first | omega))).mp hb3
  refine xw_aload_n (pc := 6) dJ2_add_2_6 0 rfl ?_
  refine xw_callF (pc := 7) (xr_V (as := []) ok_J2_grow rfl (by decide) q536 q538 qs2 (by first | rfl | (simp [xE_setI, xsz_setI, xsl_setI, xtag_setI, xown_setI, xlen_setI, xE_setR, xsz_setR, xsl_setR, xtag_setR, xown_setR, xlen_setR, xE_setW, xsz_setW, xsl_setW, xtag_setW, xown_setW, xlen_setW, xi_setR, xi_setW, xr_setI, xr_setW, xww_setI, xww_setR, xi_setI, xr_setR, xww_setW, xE_new, xsz_new, xsl_new, t1, t5, hfs, xcls, xnm, xcn]; done) | (simp [xE_setI, xsz_setI, xsl_setI, xtag_setI, xown_setI, xlen_setI, xE_setR, xsz_setR, xsl_setR, xtag_setR, xown_setR, xlen_setR, xE_setW, xsz_setW, xsl_setW, xtag_setW, xown_setW, xlen_setW, xi_setR, xi_setW, xr_setI, xr_setW, xww_setI, xww_setR, xi_setI, xr_setR, xww_setW, xE_new, xsz_new, xsl_new, t1, t5, hfs]; rfl)) (by first | rfl | (simp [xE_setI, xsz_setI, xsl_setI, xtag_setI, xown_setI, xlen_setI, xE_setR, xsz_setR, xsl_setR, xtag_setR, xown_setR, xlen_setR, xE_setW, xsz_setW, xsl_setW, xtag_setW, xown_setW, xlen_setW, xi_setR, xi_setW, xr_setI, xr_setW, xww_setI, xww_setR, xi_setI, xr_setR, xww_setW, xE_new, xsz_new, xsl_new, t1, t5, hfs, xcls, xnm, xcn]; done) | (simp [xE_setI, xsz_setI, xsl_setI, xtag_setI, xown_setI, xlen_setI, xE_setR, xsz_setR, xsl_setR, xtag_setR, xown_setR, xlen_setR, xE_setW, xsz_setW, xsl_setW, xtag_setW, xown_setW, xlen_setW, xi_setR, xi_setW, xr_setI, xr_setW, xww_setI, xww_setR, xi_setI, xr_setR, xww_setW, xE_new, xsz_new, xsl_new, t1, t5, hfs]; rfl)) dJ2_add_2_7 rfl rfl (Nat.le_of_ble_eq_true rfl)) (SP_J2_grow h0 ho hel hf hm) ?_
  intro g7 hc7 hm7
  obtain ⟨z1, z2, z3, z4, z5, z6, z7, z8, z9⟩ := hc7.1
  have hb7 := hb.fr hc7.2.2
  have hx7 := hc7.2.1
  have z6o : xown g7 (xsz g) = o := by rcases z6 with q | q; exact q; omega
  have z6n : xown g7 (xsz g) ≠ 0 := by rw [z6o]; exact ho
  have z2n : xown g7 a ≠ 0 := by rw [z2]; exact ho
  have hz := x_added (b := b) hc7.1 hc7.2.1
  refine xw_astore_n (l' := [(2, _), (0, _), (1, _), (3, _)]) (pc := 10) dJ2_add_2_10 rfl (by decide) rfl ?_
  refine xw_aload_n (pc := 11) dJ2_add_2_11 0 rfl ?_
  refine xw_iload_n (pc := 12) dJ2_add_2_12 3 rfl ?_
  refine xw_aload_n (pc := 13) dJ2_add_2_13 2 rfl ?_
  refine xw_aast (q := 7) (k := ls.length) (pc := 14) dJ2_add_2_14 (by simp [xE_setI, xsz_setI, xsl_setI, xtag_setI, xown_setI, xlen_setI, xE_setR, xsz_setR, xsl_setR, xtag_setR, xown_setR, xlen_setR, xE_setW, xsz_setW, xsl_setW, xtag_setW, xown_setW, xlen_setW, xi_setR, xi_setW, xr_setI, xr_setW, xww_setI, xww_setR, xi_setI, xr_setR, xww_setW, xE_new, xsz_new, xsl_new, t1, t5, hfs, z1, z5, z6n, z2n]) (by decide) (by decide) rfl (by first | assumption | (simp [xE_setI, xsz_setI, xsl_setI, xtag_setI, xown_setI, xlen_setI, xE_setR, xsz_setR, xsl_setR, xtag_setR, xown_setR, xlen_setR, xE_setW, xsz_setW, xsl_setW, xtag_setW, xown_setW, xlen_setW, xi_setR, xi_setW, xr_setI, xr_setW, xww_setI, xww_setR, xi_setI, xr_setR, xww_setW, xE_new, xsz_new, xsl_new, t1, t5, hfs, z1, z5, z6n, z2n]; done) | (simp [xE_setI, xsz_setI, xsl_setI, xtag_setI, xown_setI, xlen_setI, xE_setR, xsz_setR, xsl_setR, xtag_setR, xown_setR, xlen_setR, xE_setW, xsz_setW, xsl_setW, xtag_setW, xown_setW, xlen_setW, xi_setR, xi_setW, xr_setI, xr_setW, xww_setI, xww_setR, xi_setI, xr_setR, xww_setW, xE_new, xsz_new, xsl_new, t1, t5, hfs, z1, z5, z6n, z2n]; assumption)) rfl (by omega) (by exact hb7.1) (by exact hb7.2) ?_
  refine xw_aload_n (pc := 15) dJ2_add_2_15 1 rfl ?_
  refine xw_iload_n (pc := 16) dJ2_add_2_16 3 rfl ?_
  refine xw_iconst (v := nI 1) (pc := 17) dJ2_add_2_17 rfl ?_
  refine xn_iadd (pc := 18) dJ2_add_2_18 ?_
  refine xw_putI (pc := 19) fd_J2_48 (xfin_of (by decide) (by decide +kernel)) dJ2_add_2_19 (by first | assumption | (simp [xE_setI, xsz_setI, xsl_setI, xtag_setI, xown_setI, xlen_setI, xE_setR, xsz_setR, xsl_setR, xtag_setR, xown_setR, xlen_setR, xE_setW, xsz_setW, xsl_setW, xtag_setW, xown_setW, xlen_setW, xi_setR, xi_setW, xr_setI, xr_setW, xww_setI, xww_setR, xi_setI, xr_setR, xww_setW, xE_new, xsz_new, xsl_new, t1, t5, hfs, z1, z5, z6n, z2n, xsub]; done) | (simp [xE_setI, xsz_setI, xsl_setI, xtag_setI, xown_setI, xlen_setI, xE_setR, xsz_setR, xsl_setR, xtag_setR, xown_setR, xlen_setR, xE_setW, xsz_setW, xsl_setW, xtag_setW, xown_setW, xlen_setW, xi_setR, xi_setW, xr_setI, xr_setW, xww_setI, xww_setR, xi_setI, xr_setR, xww_setW, xE_new, xsz_new, xsl_new, t1, t5, hfs, z1, z5, z6n, z2n] <;> rfl)) (by first | assumption | (simp [xE_setI, xsz_setI, xsl_setI, xtag_setI, xown_setI, xlen_setI, xE_setR, xsz_setR, xsl_setR, xtag_setR, xown_setR, xlen_setR, xE_setW, xsz_setW, xsl_setW, xtag_setW, xown_setW, xlen_setW, xi_setR, xi_setW, xr_setI, xr_setW, xww_setI, xww_setR, xi_setI, xr_setR, xww_setW, xE_new, xsz_new, xsl_new, t1, t5, hfs, z1, z5, z6n, z2n]; done) | (simp [xE_setI, xsz_setI, xsl_setI, xtag_setI, xown_setI, xlen_setI, xE_setR, xsz_setR, xsl_setR, xtag_setR, xown_setR, xlen_setR, xE_setW, xsz_setW, xsl_setW, xtag_setW, xown_setW, xlen_setW, xi_setR, xi_setW, xr_setI, xr_setW, xww_setI, xww_setR, xi_setI, xr_setR, xww_setW, xE_new, xsz_new, xsl_new, t1, t5, hfs, z1, z5, z6n, z2n]; assumption)) ?_
  refine xw_vret (pc := 22) dJ2_add_2_22 rfl ?_
  exact ⟨rfl, xsz g, hz.1, by rw [xlen_setI, xlen_setR]; omega, (hc7.2.2.tr hz.2).sub (fun _ h => h) (Nat.le_refl _)⟩

theorem SP_J2_addGF {d : Nat} {g : xG} {o a arr b : Nat} {ls : List Nat} (h : xAL g o a arr ls) (ho : o ≠ 0) (hel : ∀ i, i < ls.length → xObj g (ls.getD i 0)) (hb : xObj g b) (hf : ls.length = xlen g arr) (hm : ls.length < 100) : XM M_J2_add (d + 6) [.ref a, .ref b] g (xVal (.int (nI 1)) (fun g' => ∃ arr', xAL g' o a arr' (ls ++ [b]) ∧ xlen g arr ≤ xlen g' arr' ∧ xFr (oEq o) 1000 g g')) := by
  have h0 := h
  obtain ⟨t1, t2, t3, t4, t5, t6, t7, t8, t9⟩ := h
  have hna : xown g a ≠ 0 := by rw [t2]; exact ho
  have ha : a < xsz g := xlt (by rw [t1]; decide)
  have hfs : xlen g arr = ls.length := hf.symm
  refine xm_of (by decide +kernel) (Nat.le_of_ble_eq_true rfl) ?_
  show XW _ _ 0 [(0, _), (1, _)] [] _ _
  refine xw_aload_n (pc := 0) dJ2_add_0 0 rfl ?_
  refine xw_dup (pc := 1) dJ2_add_1 rfl ?_
  refine xw_getI (pc := 2) fd_J2_63 dJ2_add_2 (by first | assumption | (simp [xE_setI, xsz_setI, xsl_setI, xtag_setI, xown_setI, xlen_setI, xE_setR, xsz_setR, xsl_setR, xtag_setR, xown_setR, xlen_setR, xE_setW, xsz_setW, xsl_setW, xtag_setW, xown_setW, xlen_setW, xi_setR, xi_setW, xr_setI, xr_setW, xww_setI, xww_setR, xi_setI, xr_setR, xww_setW, xE_new, xsz_new, xsl_new, t1, t3, t4, xsub]; done) | (simp [xE_setI, xsz_setI, xsl_setI, xtag_setI, xown_setI, xlen_setI, xE_setR, xsz_setR, xsl_setR, xtag_setR, xown_setR, xlen_setR, xE_setW, xsz_setW, xsl_setW, xtag_setW, xown_setW, xlen_setW, xi_setR, xi_setW, xr_setI, xr_setW, xww_setI, xww_setR, xi_setI, xr_setR, xww_setW, xE_new, xsz_new, xsl_new, t1, t3, t4] <;> rfl)) ?_
  refine xw_iconst (v := nI 1) (pc := 5) dJ2_add_5 rfl ?_
  refine xw_iadd (pc := 6) dJ2_add_6 ?_
  refine xw_putI (pc := 7) fd_J2_63 (xfin_of (by decide) (by decide +kernel)) dJ2_add_7 (by first | assumption | (simp [xE_setI, xsz_setI, xsl_setI, xtag_setI, xown_setI, xlen_setI, xE_setR, xsz_setR, xsl_setR, xtag_setR, xown_setR, xlen_setR, xE_setW, xsz_setW, xsl_setW, xtag_setW, xown_setW, xlen_setW, xi_setR, xi_setW, xr_setI, xr_setW, xww_setI, xww_setR, xi_setI, xr_setR, xww_setW, xE_new, xsz_new, xsl_new, t1, t3, t4, xsub]; done) | (simp [xE_setI, xsz_setI, xsl_setI, xtag_setI, xown_setI, xlen_setI, xE_setR, xsz_setR, xsl_setR, xtag_setR, xown_setR, xlen_setR, xE_setW, xsz_setW, xsl_setW, xtag_setW, xown_setW, xlen_setW, xi_setR, xi_setW, xr_setI, xr_setW, xww_setI, xww_setR, xi_setI, xr_setR, xww_setW, xE_new, xsz_new, xsl_new, t1, t3, t4] <;> rfl)) (by first | assumption | (simp [xE_setI, xsz_setI, xsl_setI, xtag_setI, xown_setI, xlen_setI, xE_setR, xsz_setR, xsl_setR, xtag_setR, xown_setR, xlen_setR, xE_setW, xsz_setW, xsl_setW, xtag_setW, xown_setW, xlen_setW, xi_setR, xi_setW, xr_setI, xr_setW, xww_setI, xww_setR, xi_setI, xr_setR, xww_setW, xE_new, xsz_new, xsl_new, t1, t3, t4]; done) | (simp [xE_setI, xsz_setI, xsl_setI, xtag_setI, xown_setI, xlen_setI, xE_setR, xsz_setR, xsl_setR, xtag_setR, xown_setR, xlen_setR, xE_setW, xsz_setW, xsl_setW, xtag_setW, xown_setW, xlen_setW, xi_setR, xi_setW, xr_setI, xr_setW, xww_setI, xww_setR, xi_setI, xr_setR, xww_setW, xE_new, xsz_new, xsl_new, t1, t3, t4]; assumption)) ?_
  have hm1 : xAL (xsetI g a 0 (xi g a 0 + nI 1)) o a arr ls := by
    refine ⟨by rw [xtag_setI]; exact t1, by rw [xown_setI]; exact t2, by rw [xr_setI]; exact t3, by rw [xi_setIK (by decide)]; exact t4, by rw [xtag_setI]; exact t5, by rw [xown_setI, xlen_setI]; exact t6, by rw [xlen_setI]; exact t7, by rw [xlen_setI]; exact t8, fun i hi => by rw [xr_setI]; exact t9 i hi⟩
  have hb1 : xObj (xsetI g a 0 (xi g a 0 + nI 1)) b := by unfold xObj; rw [xtag_setI]; exact hb
  have hel1 : ∀ i, i < ls.length → xObj (xsetI g a 0 (xi g a 0 + nI 1)) (ls.getD i 0) := fun i hi => by unfold xObj; rw [xtag_setI]; exact hel i hi
  refine xw_aload_n (pc := 10) dJ2_add_10 0 rfl ?_
  refine xw_aload_n (pc := 11) dJ2_add_11 1 rfl ?_
  refine xw_aload_n (pc := 12) dJ2_add_12 0 rfl ?_
  refine xw_getS (b := arr) (pc := 13) fd_J2_9 dJ2_add_13 (by first | assumption | (simp [xE_setI, xsz_setI, xsl_setI, xtag_setI, xown_setI, xlen_setI, xE_setR, xsz_setR, xsl_setR, xtag_setR, xown_setR, xlen_setR, xE_setW, xsz_setW, xsl_setW, xtag_setW, xown_setW, xlen_setW, xi_setR, xi_setW, xr_setI, xr_setW, xww_setI, xww_setR, xi_setI, xr_setR, xww_setW, xE_new, xsz_new, xsl_new, t1, t3, t4, xsub]; done) | (simp [xE_setI, xsz_setI, xsl_setI, xtag_setI, xown_setI, xlen_setI, xE_setR, xsz_setR, xsl_setR, xtag_setR, xown_setR, xlen_setR, xE_setW, xsz_setW, xsl_setW, xtag_setW, xown_setW, xlen_setW, xi_setR, xi_setW, xr_setI, xr_setW, xww_setI, xww_setR, xi_setI, xr_setR, xww_setW, xE_new, xsz_new, xsl_new, t1, t3, t4] <;> rfl)) (by simp [xE_setI, xsz_setI, xsl_setI, xtag_setI, xown_setI, xlen_setI, xE_setR, xsz_setR, xsl_setR, xtag_setR, xown_setR, xlen_setR, xE_setW, xsz_setW, xsl_setW, xtag_setW, xown_setW, xlen_setW, xi_setR, xi_setW, xr_setI, xr_setW, xww_setI, xww_setR, xi_setI, xr_setR, xww_setW, xE_new, xsz_new, xsl_new, t1, t3, t4]) ?_
  refine xw_aload_n (pc := 16) dJ2_add_16 0 rfl ?_
  refine xw_getNat (k := ls.length) (pc := 17) fd_J2_48 dJ2_add_17 (by first | assumption | (simp [xE_setI, xsz_setI, xsl_setI, xtag_setI, xown_setI, xlen_setI, xE_setR, xsz_setR, xsl_setR, xtag_setR, xown_setR, xlen_setR, xE_setW, xsz_setW, xsl_setW, xtag_setW, xown_setW, xlen_setW, xi_setR, xi_setW, xr_setI, xr_setW, xww_setI, xww_setR, xi_setI, xr_setR, xww_setW, xE_new, xsz_new, xsl_new, t1, t3, t4, xsub]; done) | (simp [xE_setI, xsz_setI, xsl_setI, xtag_setI, xown_setI, xlen_setI, xE_setR, xsz_setR, xsl_setR, xtag_setR, xown_setR, xlen_setR, xE_setW, xsz_setW, xsl_setW, xtag_setW, xown_setW, xlen_setW, xi_setR, xi_setW, xr_setI, xr_setW, xww_setI, xww_setR, xi_setI, xr_setR, xww_setW, xE_new, xsz_new, xsl_new, t1, t3, t4] <;> rfl)) (by simp [xE_setI, xsz_setI, xsl_setI, xtag_setI, xown_setI, xlen_setI, xE_setR, xsz_setR, xsl_setR, xtag_setR, xown_setR, xlen_setR, xE_setW, xsz_setW, xsl_setW, xtag_setW, xown_setW, xlen_setW, xi_setR, xi_setW, xr_setI, xr_setW, xww_setI, xww_setR, xi_setI, xr_setR, xww_setW, xE_new, xsz_new, xsl_new, t1, t3, t4]) ?_
  refine xw_callH (pc := 20) (xr_V (as := [_, _, _]) ok_J2_add_2 rfl (by decide) q532 q534 qs1 (by simp only [xtag_setI]; rw [t1]; rfl) (by simp only [xtag_setI]; rw [t1]; rfl) dJ2_add_20 rfl rfl (Nat.le_of_ble_eq_true rfl)) (SP_J2_add_2G (o := o) hm1 ho hel1 hb1 (by simp only [xlen_setI]; exact hf) hm) ?_
  intro g20 hc20 hm20
  refine xw_iconst (v := nI 1) (pc := 23) dJ2_add_23 rfl ?_
  refine xw_iret (pc := 24) .boolean dJ2_add_24 rfl ?_ 
  obtain ⟨arr9, q1, q2, q3⟩ := hc20
  exact ⟨rfl, arr9, q1, by rw [xlen_setI] at q2; exact q2, (((xFr.rf (n := 0)).si (Or.inr t2)).tr q3).sub (fun _ h => h) (by omega)⟩

theorem SP_J2_addG {d : Nat} {g : xG} {o a arr b : Nat} {ls : List Nat} (h : xAL g o a arr ls) (ho : o ≠ 0) (hel : ∀ i, i < ls.length → xObj g (ls.getD i 0)) (hb : xObj g b) (hm : ls.length < 100) : XM M_J2_add (d + 6) [.ref a, .ref b] g (xVal (.int (nI 1)) (fun g' => ∃ arr', xAL g' o a arr' (ls ++ [b]) ∧ xlen g arr ≤ xlen g' arr' ∧ xFr (oEq o) 1000 g g')) := by
  by_cases hf : ls.length < xlen g arr
  · refine (SP_J2_addF (d := d + 5) h ho hb hf).mono (fun rs g' hp _ => ?_)
    have F := hp.2.2
    have hr : arr < xsz g := xlt (by rw [h.2.2.2.2.1]; decide)
    exact ⟨hp.1, arr, hp.2.1, by rw [F.len hr]; exact Nat.le_refl _, F.sub (fun _ h => h) (by omega)⟩
  · exact SP_J2_addGF h ho hel hb (by have := h.2.2.2.2.2.2.1; omega) hm
theorem getD_erase {ls : List Nat} {i j : Nat} : (ls.eraseIdx i).getD j 0 = if j < i then ls.getD j 0 else ls.getD (j + 1) 0 := by
  rw [List.getD_eq_getElem?_getD, List.getElem?_eraseIdx]
  by_cases h : j < i
  · rw [if_pos h, if_pos h, List.getD_eq_getElem?_getD]
  · rw [if_neg h, if_neg h, List.getD_eq_getElem?_getD]
theorem x_removed {g g2 : xG} {o a arr i : Nat} {ls : List Nat} (h : xAL g o a arr ls) (F : xFr (oEq o) 0 g g2) (hi : i < ls.length) (e1 : xr g2 a 1 = some arr) (e2 : ∀ j, j < ls.length - 1 → xr g2 arr j = if j < i then xr g arr j else xr g arr (j + 1)) : xAL (xsetR (xsetI g2 a 2 (nI (ls.length - 1))) arr (ls.length - 1) none) o a arr (ls.eraseIdx i) ∧ xFr (oEq o) 0 g (xsetR (xsetI g2 a 2 (nI (ls.length - 1))) arr (ls.length - 1) none) := by
  obtain ⟨t1, t2, t3, t4, t5, t6, t7, t8, t9⟩ := h
  have hao : xown g arr = o := by rcases t6 with q | q; exact q; omega
  have ha : a < xsz g := xlt (by rw [t1]; decide)
  have hr : arr < xsz g := xlt (by rw [t5]; decide)
  have hne : a ≠ arr := fun q => by rw [q, t5] at t1; cases t1
  have el : (ls.eraseIdx i).length = ls.length - 1 := List.length_eraseIdx_of_lt hi
  refine ⟨⟨?_, ?_, ?_, ?_, ?_, Or.inl ?_, ?_, ?_, fun j hj => ?_⟩, ?_⟩
  · rw [xtag_setR, xtag_setI, F.tag ha]; exact t1
  · rw [xown_setR, xown_setI, F.own ha]; exact t2
  · rw [xr_setRN hne, xr_setI]; exact e1
  · rw [xi_setR, xi_setIS (by rw [F.tag ha, t1]; decide), el]
  · rw [xtag_setR, xtag_setI, F.tag hr]; exact t5
  · rw [xown_setR, xown_setI, F.own hr]; exact hao
  · rw [xlen_setR, xlen_setI, F.len hr, el]; omega
  · rw [xlen_setR, xlen_setI, F.len hr]; exact t8
  · rw [el] at hj
    rw [xr_setRK (by omega), xr_setI, e2 j hj, getD_erase]
    by_cases q : j < i
    · rw [if_pos q, if_pos q]; exact t9 j (by omega)
    · rw [if_neg q, if_neg q]; exact t9 (j + 1) (by omega)
  · exact (F.si (Or.inr (by rw [F.own ha]; exact t2))).sr (Or.inr (by rw [xown_setI, F.own hr]; exact hao))
theorem SP_J2_fastRemove {d : Nat} {g : xG} {o a arr : Nat} {ls : List Nat} (h : xAL g o a arr ls) (ho : o ≠ 0) (hel : ∀ i, i < ls.length → xObj g (ls.getD i 0)) (i : Nat) (hi : i < ls.length) : XM M_J2_fastRemove (d + 1) [.ref a, .ref arr, .int (nI i)] g (xVoid (fun g' => xAL g' o a arr (ls.eraseIdx i) ∧ xFr (oEq o) 0 g g')) := by
  have h0 := h
  obtain ⟨t1, t2, t3, t4, t5, t6, t7, t8, t9⟩ := h
  have hao : xown g arr = o := by rcases t6 with q | q; exact q; omega
  have hna : xown g a ≠ 0 := by rw [t2]; exact ho
  have hnr : xown g arr ≠ 0 := by rw [hao]; exact ho
  have hne : a ≠ arr := fun q => by rw [q, t5] at t1; cases t1
  have hne2 : arr ≠ a := fun q => hne q.symm
  have hr : arr < xsz g := xlt (by rw [t5]; decide)
  have hel9 : ∀ j b, j < ls.length - 1 - i → xr (xsetI g a 0 (xi g a 0 + nI 1)) arr (i + 1 + j) = some b → xcls (xtag (xsetI g a 0 (xi g a 0 + nI 1)) b) = true ∧ Cond.castable (xnm (xtag (xsetI g a 0 (xi g a 0 + nI 1)) b)) "java/lang/Object" ∈ lw_tbl := by
    intro j b hj hb
    rw [xr_setI, t9 (i + 1 + j) (by omega)] at hb
    have e2 := Option.some.inj hb
    rw [xtag_setI, ← e2]
    exact hel _ (by omega)
  have p1 : xtag (xsetI g a 0 (xi g a 0 + nI 1)) arr = 108 := by rw [xtag_setI]; exact t5
  have p2 : xown (xsetI g a 0 (xi g a 0 + nI 1)) arr ≠ 0 := by rw [xown_setI]; exact hnr
  have p3 : xlen (xsetI g a 0 (xi g a 0 + nI 1)) arr = xlen g arr := by rw [xlen_setI]
  have q1 : ∀ f, xtag (xPut (xsetI g a 0 (xi g a 0 + nI 1)) arr (xcR (xc (xsetI g a 0 (xi g a 0 + nI 1)) arr) f)) a = 18 := fun f => by rw [xtag_pR, xtag_setI]; exact t1
  have q2 : ∀ f, xown (xPut (xsetI g a 0 (xi g a 0 + nI 1)) arr (xcR (xc (xsetI g a 0 (xi g a 0 + nI 1)) arr) f)) a ≠ 0 := fun f => by rw [xown_pR, xown_setI]; exact hna
  have q3 : ∀ f, xtag (xPut (xsetI g a 0 (xi g a 0 + nI 1)) arr (xcR (xc (xsetI g a 0 (xi g a 0 + nI 1)) arr) f)) arr = 108 := fun f => by rw [xtag_pR, xtag_setI]; exact t5
  have q4 : ∀ f, xown (xPut (xsetI g a 0 (xi g a 0 + nI 1)) arr (xcR (xc (xsetI g a 0 (xi g a 0 + nI 1)) arr) f)) arr ≠ 0 := fun f => by rw [xown_pR, xown_setI]; exact hnr
  have q5 : ∀ f, xlen (xPut (xsetI g a 0 (xi g a 0 + nI 1)) arr (xcR (xc (xsetI g a 0 (xi g a 0 + nI 1)) arr) f)) arr = xlen g arr := fun f => by rw [xlen_pR, xlen_setI]
  refine xm_of (by decide +kernel) (Nat.le_of_ble_eq_true rfl) ?_
  show XW _ _ 0 [(0, _), (1, _), (2, _)] [] _ _
  refine xw_aload_n (pc := 0) dJ2_fastRemove_0 0 rfl ?_
  refine xw_dup (pc := 1) dJ2_fastRemove_1 rfl ?_
  refine xw_getI (pc := 2) fd_J2_63 dJ2_fastRemove_2 (by first | assumption | (simp [xE_setI, xsz_setI, xsl_setI, xtag_setI, xown_setI, xlen_setI, xE_setR, xsz_setR, xsl_setR, xtag_setR, xown_setR, xlen_setR, xE_setW, xsz_setW, xsl_setW, xtag_setW, xown_setW, xlen_setW, xi_setR, xi_setW, xr_setI, xr_setW, xww_setI, xww_setR, xi_setI, xr_setR, xww_setW, xE_new, xsz_new, xsl_new, t1, t4, t5, hna, hnr, q1, q2, q3, q4, q5, xsub]; done) | (simp [xE_setI, xsz_setI, xsl_setI, xtag_setI, xown_setI, xlen_setI, xE_setR, xsz_setR, xsl_setR, xtag_setR, xown_setR, xlen_setR, xE_setW, xsz_setW, xsl_setW, xtag_setW, xown_setW, xlen_setW, xi_setR, xi_setW, xr_setI, xr_setW, xww_setI, xww_setR, xi_setI, xr_setR, xww_setW, xE_new, xsz_new, xsl_new, t1, t4, t5, hna, hnr, q1, q2, q3, q4, q5] <;> rfl)) ?_
  refine xw_iconst (v := nI 1) (pc := 5) dJ2_fastRemove_5 rfl ?_
  refine xw_iadd (pc := 6) dJ2_fastRemove_6 ?_
  refine xw_putI (pc := 7) fd_J2_63 (xfin_of (by decide) (by decide +kernel)) dJ2_fastRemove_7 (by first | assumption | (simp [xE_setI, xsz_setI, xsl_setI, xtag_setI, xown_setI, xlen_setI, xE_setR, xsz_setR, xsl_setR, xtag_setR, xown_setR, xlen_setR, xE_setW, xsz_setW, xsl_setW, xtag_setW, xown_setW, xlen_setW, xi_setR, xi_setW, xr_setI, xr_setW, xww_setI, xww_setR, xi_setI, xr_setR, xww_setW, xE_new, xsz_new, xsl_new, t1, t4, t5, hna, hnr, q1, q2, q3, q4, q5, xsub]; done) | (simp [xE_setI, xsz_setI, xsl_setI, xtag_setI, xown_setI, xlen_setI, xE_setR, xsz_setR, xsl_setR, xtag_setR, xown_setR, xlen_setR, xE_setW, xsz_setW, xsl_setW, xtag_setW, xown_setW, xlen_setW, xi_setR, xi_setW, xr_setI, xr_setW, xww_setI, xww_setR, xi_setI, xr_setR, xww_setW, xE_new, xsz_new, xsl_new, t1, t4, t5, hna, hnr, q1, q2, q3, q4, q5] <;> rfl)) (by first | assumption | (simp [xE_setI, xsz_setI, xsl_setI, xtag_setI, xown_setI, xlen_setI, xE_setR, xsz_setR, xsl_setR, xtag_setR, xown_setR, xlen_setR, xE_setW, xsz_setW, xsl_setW, xtag_setW, xown_setW, xlen_setW, xi_setR, xi_setW, xr_setI, xr_setW, xww_setI, xww_setR, xi_setI, xr_setR, xww_setW, xE_new, xsz_new, xsl_new, t1, t4, t5, hna, hnr, q1, q2, q3, q4, q5]; done) | (simp [xE_setI, xsz_setI, xsl_setI, xtag_setI, xown_setI, xlen_setI, xE_setR, xsz_setR, xsl_setR, xtag_setR, xown_setR, xlen_setR, xE_setW, xsz_setW, xsl_setW, xtag_setW, xown_setW, xlen_setW, xi_setR, xi_setW, xr_setI, xr_setW, xww_setI, xww_setR, xi_setI, xr_setR, xww_setW, xE_new, xsz_new, xsl_new, t1, t4, t5, hna, hnr, q1, q2, q3, q4, q5]; assumption)) ?_
  refine xw_aload_n (pc := 10) dJ2_fastRemove_10 0 rfl ?_
  refine xw_getNat (k := ls.length) (pc := 11) fd_J2_48 dJ2_fastRemove_11 (by first | assumption | (simp [xE_setI, xsz_setI, xsl_setI, xtag_setI, xown_setI, xlen_setI, xE_setR, xsz_setR, xsl_setR, xtag_setR, xown_setR, xlen_setR, xE_setW, xsz_setW, xsl_setW, xtag_setW, xown_setW, xlen_setW, xi_setR, xi_setW, xr_setI, xr_setW, xww_setI, xww_setR, xi_setI, xr_setR, xww_setW, xE_new, xsz_new, xsl_new, t1, t4, t5, hna, hnr, q1, q2, q3, q4, q5, xsub]; done) | (simp [xE_setI, xsz_setI, xsl_setI, xtag_setI, xown_setI, xlen_setI, xE_setR, xsz_setR, xsl_setR, xtag_setR, xown_setR, xlen_setR, xE_setW, xsz_setW, xsl_setW, xtag_setW, xown_setW, xlen_setW, xi_setR, xi_setW, xr_setI, xr_setW, xww_setI, xww_setR, xi_setI, xr_setR, xww_setW, xE_new, xsz_new, xsl_new, t1, t4, t5, hna, hnr, q1, q2, q3, q4, q5] <;> rfl)) (by simp [xE_setI, xsz_setI, xsl_setI, xtag_setI, xown_setI, xlen_setI, xE_setR, xsz_setR, xsl_setR, xtag_setR, xown_setR, xlen_setR, xE_setW, xsz_setW, xsl_setW, xtag_setW, xown_setW, xlen_setW, xi_setR, xi_setW, xr_setI, xr_setW, xww_setI, xww_setR, xi_setI, xr_setR, xww_setW, xE_new, xsz_new, xsl_new, t1, t4, t5, hna, hnr, q1, q2, q3, q4, q5]) ?_
  refine xw_iconst (v := nI 1) (pc := 14) dJ2_fastRemove_14 rfl ?_
  refine xn_isub (pc := 15) dJ2_fastRemove_15 (by omega) ?_
  refine xw_dup (pc := 16) dJ2_fastRemove_16 rfl ?_
  refine xw_istore_n (l' := [(3, _), (0, _), (1, _), (2, _)]) (pc := 17) dJ2_fastRemove_17 rfl (by decide) rfl ?_
  refine xw_iload_n (pc := 18) dJ2_fastRemove_18 3 rfl ?_
  refine xw_icmp_le (pc := 19) 34 dJ2_fastRemove_19 rfl (fun hb19 => ?_) (fun hb19 => ?_)
  · replace hb19 : (ls.length - 1) ≤ i := (nI_leI (a := (ls.length - 1)) (b := i) (by omega) (by omega)).mp hb19
    refine xw_aload_n (pc := 34) dJ2_fastRemove_34 2 rfl ?_
    refine xw_aload_n (pc := 35) dJ2_fastRemove_35 1 rfl ?_
    refine xw_iload_n (pc := 36) dJ2_fastRemove_36 0 rfl ?_
    refine xw_dup_x1 (pc := 37) dJ2_fastRemove_37 rfl rfl ?_
    refine xw_putI (pc := 38) fd_J2_48 (xfin_of (by decide) (by decide +kernel)) dJ2_fastRemove_38 (by first | assumption | (simp [xE_setI, xsz_setI, xsl_setI, xtag_setI, xown_setI, xlen_setI, xE_setR, xsz_setR, xsl_setR, xtag_setR, xown_setR, xlen_setR, xE_setW, xsz_setW, xsl_setW, xtag_setW, xown_setW, xlen_setW, xi_setR, xi_setW, xr_setI, xr_setW, xww_setI, xww_setR, xi_setI, xr_setR, xww_setW, xE_new, xsz_new, xsl_new, t1, t4, t5, hna, hnr, q1, q2, q3, q4, q5, xsub]; done) | (simp [xE_setI, xsz_setI, xsl_setI, xtag_setI, xown_setI, xlen_setI, xE_setR, xsz_setR, xsl_setR, xtag_setR, xown_setR, xlen_setR, xE_setW, xsz_setW, xsl_setW, xtag_setW, xown_setW, xlen_setW, xi_setR, xi_setW, xr_setI, xr_setW, xww_setI, xww_setR, xi_setI, xr_setR, xww_setW, xE_new, xsz_new, xsl_new, t1, t4, t5, hna, hnr, q1, q2, q3, q4, q5] <;> rfl)) (by first | assumption | (simp [xE_setI, xsz_setI, xsl_setI, xtag_setI, xown_setI, xlen_setI, xE_setR, xsz_setR, xsl_setR, xtag_setR, xown_setR, xlen_setR, xE_setW, xsz_setW, xsl_setW, xtag_setW, xown_setW, xlen_setW, xi_setR, xi_setW, xr_setI, xr_setW, xww_setI, xww_setR, xi_setI, xr_setR, xww_setW, xE_new, xsz_new, xsl_new, t1, t4, t5, hna, hnr, q1, q2, q3, q4, q5]; done) | (simp [xE_setI, xsz_setI, xsl_setI, xtag_setI, xown_setI, xlen_setI, xE_setR, xsz_setR, xsl_setR, xtag_setR, xown_setR, xlen_setR, xE_setW, xsz_setW, xsl_setW, xtag_setW, xown_setW, xlen_setW, xi_setR, xi_setW, xr_setI, xr_setW, xww_setI, xww_setR, xi_setI, xr_setR, xww_setW, xE_new, xsz_new, xsl_new, t1, t4, t5, hna, hnr, q1, q2, q3, q4, q5]; assumption)) ?_
    refine xw_null (pc := 41) dJ2_fastRemove_41 ?_
    refine xw_aastN (q := 7) (k := (ls.length - 1)) (pc := 42) dJ2_fastRemove_42 (by simp [xE_setI, xsz_setI, xsl_setI, xtag_setI, xown_setI, xlen_setI, xE_setR, xsz_setR, xsl_setR, xtag_setR, xown_setR, xlen_setR, xE_setW, xsz_setW, xsl_setW, xtag_setW, xown_setW, xlen_setW, xi_setR, xi_setW, xr_setI, xr_setW, xww_setI, xww_setR, xi_setI, xr_setR, xww_setW, xE_new, xsz_new, xsl_new, t1, t4, t5, hna, hnr, q1, q2, q3, q4, q5]) (by decide) (by decide) rfl (by first | assumption | (simp [xE_setI, xsz_setI, xsl_setI, xtag_setI, xown_setI, xlen_setI, xE_setR, xsz_setR, xsl_setR, xtag_setR, xown_setR, xlen_setR, xE_setW, xsz_setW, xsl_setW, xtag_setW, xown_setW, xlen_setW, xi_setR, xi_setW, xr_setI, xr_setW, xww_setI, xww_setR, xi_setI, xr_setR, xww_setW, xE_new, xsz_new, xsl_new, t1, t4, t5, hna, hnr, q1, q2, q3, q4, q5]; done) | (simp [xE_setI, xsz_setI, xsl_setI, xtag_setI, xown_setI, xlen_setI, xE_setR, xsz_setR, xsl_setR, xtag_setR, xown_setR, xlen_setR, xE_setW, xsz_setW, xsl_setW, xtag_setW, xown_setW, xlen_setW, xi_setR, xi_setW, xr_setI, xr_setW, xww_setI, xww_setR, xi_setI, xr_setR, xww_setW, xE_new, xsz_new, xsl_new, t1, t4, t5, hna, hnr, q1, q2, q3, q4, q5]; assumption)) rfl (by (first | omega | (simp only [xlen_setI, q5]; omega))) ?_
    refine xw_vret (pc := 43) dJ2_fastRemove_43 rfl ?_
    first
    | (exfalso; omega)
    | (have F : xFr (oEq o) 0 g (xsetI g a 0 (xi g a 0 + nI 1)) := xFr.rf.si (Or.inr t2)
       exact ⟨rfl, x_removed h0 F hi (by rw [xr_setI]; exact t3) (fun j hj => by rw [xr_setI, if_pos (by omega)])⟩)
    | (have F : xFr (oEq o) 0 g (xPut (xsetI g a 0 (xi g a 0 + nI 1)) arr (xcR (xc (xsetI g a 0 (xi g a 0 + nI 1)) arr) (va_cpy (xr (xsetI g a 0 (xi g a 0 + nI 1)) arr) (xr (xsetI g a 0 (xi g a 0 + nI 1)) arr) (i + 1) i (ls.length - 1 - i)))) := (xFr.rf.si (Or.inr t2)).pR (Or.inr (by rw [xown_setI]; exact hao))
       refine ⟨rfl, x_removed h0 F hi (by rw [xr_putN hne, xr_setI]; exact t3) (fun j hj => ?_)⟩
       rw [xr_pRS (by exact hr)]
       unfold va_cpy
       by_cases q : j < i
       · rw [if_neg (show ¬ (i ≤ j ∧ j < i + (ls.length - 1 - i)) from fun z => by omega), if_pos q, xr_setI]
       · rw [if_pos (show i ≤ j ∧ j < i + (ls.length - 1 - i) from ⟨by omega, by omega⟩), if_neg q, xr_setI, show i + 1 + (j - i) = j + 1 from by omega])
  · replace hb19 : ¬ ((ls.length - 1) ≤ i) := mt (nI_leI (a := (ls.length - 1)) (b := i) (by omega) (by omega)).mpr hb19
    refine xw_aload_n (pc := 22) dJ2_fastRemove_22 2 rfl ?_
    refine xw_iload_n (pc := 23) dJ2_fastRemove_23 3 rfl ?_
    refine xw_iconst (v := nI 1) (pc := 24) dJ2_fastRemove_24 rfl ?_
    refine xn_iadd (pc := 25) dJ2_fastRemove_25 ?_
    refine xw_aload_n (pc := 26) dJ2_fastRemove_26 2 rfl ?_
    refine xw_iload_n (pc := 27) dJ2_fastRemove_27 3 rfl ?_
    refine xw_iload_n (pc := 28) dJ2_fastRemove_28 0 rfl ?_
    refine xw_iload_n (pc := 29) dJ2_fastRemove_29 3 rfl ?_
    refine xn_isub (pc := 30) dJ2_fastRemove_30 (by omega) ?_
    refine xw_copyR (pc := 31) dJ2_fastRemove_31 q1456 (by exact p1) (by exact p1) (by exact p2) (by rw [p3]; omega) (by rw [p3]; omega) (by exact Nat.le_of_ble_eq_true rfl) (by exact hel9) ?_
    refine xw_aload_n (pc := 34) dJ2_fastRemove_34 2 rfl ?_
    refine xw_aload_n (pc := 35) dJ2_fastRemove_35 1 rfl ?_
    refine xw_iload_n (pc := 36) dJ2_fastRemove_36 0 rfl ?_
    refine xw_dup_x1 (pc := 37) dJ2_fastRemove_37 rfl rfl ?_
    refine xw_putI (pc := 38) fd_J2_48 (xfin_of (by decide) (by decide +kernel)) dJ2_fastRemove_38 (by first | assumption | (simp [xE_setI, xsz_setI, xsl_setI, xtag_setI, xown_setI, xlen_setI, xE_setR, xsz_setR, xsl_setR, xtag_setR, xown_setR, xlen_setR, xE_setW, xsz_setW, xsl_setW, xtag_setW, xown_setW, xlen_setW, xi_setR, xi_setW, xr_setI, xr_setW, xww_setI, xww_setR, xi_setI, xr_setR, xww_setW, xE_new, xsz_new, xsl_new, t1, t4, t5, hna, hnr, q1, q2, q3, q4, q5, xsub]; done) | (simp [xE_setI, xsz_setI, xsl_setI, xtag_setI, xown_setI, xlen_setI, xE_setR, xsz_setR, xsl_setR, xtag_setR, xown_setR, xlen_setR, xE_setW, xsz_setW, xsl_setW, xtag_setW, xown_setW, xlen_setW, xi_setR, xi_setW, xr_setI, xr_setW, xww_setI, xww_setR, xi_setI, xr_setR, xww_setW, xE_new, xsz_new, xsl_new, t1, t4, t5, hna, hnr, q1, q2, q3, q4, q5] <;> rfl)) (by first | assumption | (simp [xE_setI, xsz_setI, xsl_setI, xtag_setI, xown_setI, xlen_setI, xE_setR, xsz_setR, xsl_setR, xtag_setR, xown_setR, xlen_setR, xE_setW, xsz_setW, xsl_setW, xtag_setW, xown_setW, xlen_setW, xi_setR, xi_setW, xr_setI, xr_setW, xww_setI, xww_setR, xi_setI, xr_setR, xww_setW, xE_new, xsz_new, xsl_new, t1, t4, t5, hna, hnr, q1, q2, q3, q4, q5]; done) | (simp [xE_setI, xsz_setI, xsl_setI, xtag_setI, xown_setI, xlen_setI, xE_setR, xsz_setR, xsl_setR, xtag_setR, xown_setR, xlen_setR, xE_setW, xsz_setW, xsl_setW, xtag_setW, xown_setW, xlen_setW, xi_setR, xi_setW, xr_setI, xr_setW, xww_setI, xww_setR, xi_setI, xr_setR, xww_setW, xE_new, xsz_new, xsl_new, t1, t4, t5, hna, hnr, q1, q2, q3, q4, q5]; assumption)) ?_
    refine xw_null (pc := 41) dJ2_fastRemove_41 ?_
    refine xw_aastN (q := 7) (k := (ls.length - 1)) (pc := 42) dJ2_fastRemove_42 (by simp [xE_setI, xsz_setI, xsl_setI, xtag_setI, xown_setI, xlen_setI, xE_setR, xsz_setR, xsl_setR, xtag_setR, xown_setR, xlen_setR, xE_setW, xsz_setW, xsl_setW, xtag_setW, xown_setW, xlen_setW, xi_setR, xi_setW, xr_setI, xr_setW, xww_setI, xww_setR, xi_setI, xr_setR, xww_setW, xE_new, xsz_new, xsl_new, t1, t4, t5, hna, hnr, q1, q2, q3, q4, q5]) (by decide) (by decide) rfl (by first | assumption | (simp [xE_setI, xsz_setI, xsl_setI, xtag_setI, xown_setI, xlen_setI, xE_setR, xsz_setR, xsl_setR, xtag_setR, xown_setR, xlen_setR, xE_setW, xsz_setW, xsl_setW, xtag_setW, xown_setW, xlen_setW, xi_setR, xi_setW, xr_setI, xr_setW, xww_setI, xww_setR, xi_setI, xr_setR, xww_setW, xE_new, xsz_new, xsl_new, t1, t4, t5, hna, hnr, q1, q2, q3, q4, q5]; done) | (simp [xE_setI, xsz_setI, xsl_setI, xtag_setI, xown_setI, xlen_setI, xE_setR, xsz_setR, xsl_setR, xtag_setR, xown_setR, xlen_setR, xE_setW, xsz_setW, xsl_setW, xtag_setW, xown_setW, xlen_setW, xi_setR, xi_setW, xr_setI, xr_setW, xww_setI, xww_setR, xi_setI, xr_setR, xww_setW, xE_new, xsz_new, xsl_new, t1, t4, t5, hna, hnr, q1, q2, q3, q4, q5]; assumption)) rfl (by (first | omega | (simp only [xlen_setI, q5]; omega))) ?_
    refine xw_vret (pc := 43) dJ2_fastRemove_43 rfl ?_
    first
    | (exfalso; omega)
    | (have F : xFr (oEq o) 0 g (xsetI g a 0 (xi g a 0 + nI 1)) := xFr.rf.si (Or.inr t2)
       exact ⟨rfl, x_removed h0 F hi (by rw [xr_setI]; exact t3) (fun j hj => by rw [xr_setI, if_pos (by omega)])⟩)
    | (have F : xFr (oEq o) 0 g (xPut (xsetI g a 0 (xi g a 0 + nI 1)) arr (xcR (xc (xsetI g a 0 (xi g a 0 + nI 1)) arr) (va_cpy (xr (xsetI g a 0 (xi g a 0 + nI 1)) arr) (xr (xsetI g a 0 (xi g a 0 + nI 1)) arr) (i + 1) i (ls.length - 1 - i)))) := (xFr.rf.si (Or.inr t2)).pR (Or.inr (by rw [xown_setI]; exact hao))
       refine ⟨rfl, x_removed h0 F hi (by rw [xr_putN hne, xr_setI]; exact t3) (fun j hj => ?_)⟩
       rw [xr_pRS (by exact hr)]
       unfold va_cpy
       by_cases q : j < i
       · rw [if_neg (show ¬ (i ≤ j ∧ j < i + (ls.length - 1 - i)) from fun z => by omega), if_pos q, xr_setI]
       · rw [if_pos (show i ≤ j ∧ j < i + (ls.length - 1 - i) from ⟨by omega, by omega⟩), if_neg q, xr_setI, show i + 1 + (j - i) = j + 1 from by omega])

theorem SP_J2_remove {d : Nat} {g : xG} {o a arr : Nat} {ls : List Nat} (h : xAL g o a arr ls) (ho : o ≠ 0) (hel : ∀ i, i < ls.length → xObj g (ls.getD i 0)) (i : Nat) (hi : i < ls.length) : XM M_J2_remove (d + 2) [.ref a, .int (nI i)] g (xVal (.ref (ls.getD i 0)) (fun g' => xAL g' o a arr (ls.eraseIdx i) ∧ xFr (oEq o) 0 g g')) := by
  have h0 := h
  obtain ⟨t1, t2, t3, t4, t5, t6, t7, t8, t9⟩ := h
  have hao : xown g arr = o := by rcases t6 with q | q; exact q; omega
  have hna : xown g a ≠ 0 := by rw [t2]; exact ho
  have hnr : xown g arr ≠ 0 := by rw [hao]; exact ho
  have hne : a ≠ arr := fun q => by rw [q, t5] at t1; cases t1
  have hne2 : arr ≠ a := fun q => hne q.symm
  have hr : arr < xsz g := xlt (by rw [t5]; decide)
  have e9 := t9 i hi
  refine xm_of (by decide +kernel) (Nat.le_of_ble_eq_true rfl) ?_
  show XW _ _ 0 [(0, _), (1, _)] [] _ _
  refine xw_iload_n (pc := 0) dJ2_remove_0 1 rfl ?_
  refine xw_aload_n (pc := 1) dJ2_remove_1 0 rfl ?_
  refine xw_getNat (k := ls.length) (pc := 2) fd_J2_48 dJ2_remove_2 (by first | assumption | (simp [xE_setI, xsz_setI, xsl_setI, xtag_setI, xown_setI, xlen_setI, xE_setR, xsz_setR, xsl_setR, xtag_setR, xown_setR, xlen_setR, xE_setW, xsz_setW, xsl_setW, xtag_setW, xown_setW, xlen_setW, xi_setR, xi_setW, xr_setI, xr_setW, xww_setI, xww_setR, xi_setI, xr_setR, xww_setW, xE_new, xsz_new, xsl_new, t1, t3, t4, t5, xsub]; done) | (simp [xE_setI, xsz_setI, xsl_setI, xtag_setI, xown_setI, xlen_setI, xE_setR, xsz_setR, xsl_setR, xtag_setR, xown_setR, xlen_setR, xE_setW, xsz_setW, xsl_setW, xtag_setW, xown_setW, xlen_setW, xi_setR, xi_setW, xr_setI, xr_setW, xww_setI, xww_setR, xi_setI, xr_setR, xww_setW, xE_new, xsz_new, xsl_new, t1, t3, t4, t5] <;> rfl)) (by simp [xE_setI, xsz_setI, xsl_setI, xtag_setI, xown_setI, xlen_setI, xE_setR, xsz_setR, xsl_setR, xtag_setR, xown_setR, xlen_setR, xE_setW, xsz_setW, xsl_setW, xtag_setW, xown_setW, xlen_setW, xi_setR, xi_setW, xr_setI, xr_setW, xww_setI, xww_setR, xi_setI, xr_setR, xww_setW, xE_new, xsz_new, xsl_new, t1, t3, t4, t5]) ?_
  refine xw_callV (pc := 5) (xr_S (as := [_, _]) ok_J21_checkIndex rfl (by decide) q709 q710 dJ2_remove_5 rfl rfl (Nat.le_of_ble_eq_true rfl)) (SP_J21_checkIndex hi (by omega)) ?_
  refine xw_pop (pc := 8) dJ2_remove_8 rfl ?_
  refine xw_aload_n (pc := 9) dJ2_remove_9 0 rfl ?_
  refine xw_getS (b := arr) (pc := 10) fd_J2_9 dJ2_remove_10 (by first | assumption | (simp [xE_setI, xsz_setI, xsl_setI, xtag_setI, xown_setI, xlen_setI, xE_setR, xsz_setR, xsl_setR, xtag_setR, xown_setR, xlen_setR, xE_setW, xsz_setW, xsl_setW, xtag_setW, xown_setW, xlen_setW, xi_setR, xi_setW, xr_setI, xr_setW, xww_setI, xww_setR, xi_setI, xr_setR, xww_setW, xE_new, xsz_new, xsl_new, t1, t3, t4, t5, xsub]; done) | (simp [xE_setI, xsz_setI, xsl_setI, xtag_setI, xown_setI, xlen_setI, xE_setR, xsz_setR, xsl_setR, xtag_setR, xown_setR, xlen_setR, xE_setW, xsz_setW, xsl_setW, xtag_setW, xown_setW, xlen_setW, xi_setR, xi_setW, xr_setI, xr_setW, xww_setI, xww_setR, xi_setI, xr_setR, xww_setW, xE_new, xsz_new, xsl_new, t1, t3, t4, t5] <;> rfl)) (by simp [xE_setI, xsz_setI, xsl_setI, xtag_setI, xown_setI, xlen_setI, xE_setR, xsz_setR, xsl_setR, xtag_setR, xown_setR, xlen_setR, xE_setW, xsz_setW, xsl_setW, xtag_setW, xown_setW, xlen_setW, xi_setR, xi_setW, xr_setI, xr_setW, xww_setI, xww_setR, xi_setI, xr_setR, xww_setW, xE_new, xsz_new, xsl_new, t1, t3, t4, t5]) ?_
  refine xw_astore_n (l' := [(2, _), (0, _), (1, _)]) (pc := 13) dJ2_remove_13 rfl (by decide) rfl ?_
  refine xw_aload_n (pc := 14) dJ2_remove_14 0 rfl ?_
  refine xw_iload_n (pc := 15) dJ2_remove_15 2 rfl ?_
  refine xw_aald (q := 7) (k := i) (pc := 16) dJ2_remove_16 (by simp [xE_setI, xsz_setI, xsl_setI, xtag_setI, xown_setI, xlen_setI, xE_setR, xsz_setR, xsl_setR, xtag_setR, xown_setR, xlen_setR, xE_setW, xsz_setW, xsl_setW, xtag_setW, xown_setW, xlen_setW, xi_setR, xi_setW, xr_setI, xr_setW, xww_setI, xww_setR, xi_setI, xr_setR, xww_setW, xE_new, xsz_new, xsl_new, t1, t3, t4, t5]) (by decide) (by decide) rfl (by omega) ?_
  rw [show xr g arr i = some (ls.getD i 0) from by exact e9]
  refine xw_astore_n (l' := [(3, _), (2, _), (0, _), (1, _)]) (pc := 17) dJ2_remove_17 rfl (by decide) rfl ?_
  refine xw_aload_n (pc := 18) dJ2_remove_18 2 rfl ?_
  refine xw_aload_n (pc := 19) dJ2_remove_19 1 rfl ?_
  refine xw_iload_n (pc := 20) dJ2_remove_20 3 rfl ?_
  refine xw_callH (pc := 21) (xr_V (as := [_, _]) ok_J2_fastRemove rfl (by decide) q1452 q1454 qs24 (by first | rfl | (simp [xE_setI, xsz_setI, xsl_setI, xtag_setI, xown_setI, xlen_setI, xE_setR, xsz_setR, xsl_setR, xtag_setR, xown_setR, xlen_setR, xE_setW, xsz_setW, xsl_setW, xtag_setW, xown_setW, xlen_setW, xi_setR, xi_setW, xr_setI, xr_setW, xww_setI, xww_setR, xi_setI, xr_setR, xww_setW, xE_new, xsz_new, xsl_new, t1, t3, t4, t5, xcls, xnm, xcn]; done) | (simp [xE_setI, xsz_setI, xsl_setI, xtag_setI, xown_setI, xlen_setI, xE_setR, xsz_setR, xsl_setR, xtag_setR, xown_setR, xlen_setR, xE_setW, xsz_setW, xsl_setW, xtag_setW, xown_setW, xlen_setW, xi_setR, xi_setW, xr_setI, xr_setW, xww_setI, xww_setR, xi_setI, xr_setR, xww_setW, xE_new, xsz_new, xsl_new, t1, t3, t4, t5]; rfl)) (by first | rfl | (simp [xE_setI, xsz_setI, xsl_setI, xtag_setI, xown_setI, xlen_setI, xE_setR, xsz_setR, xsl_setR, xtag_setR, xown_setR, xlen_setR, xE_setW, xsz_setW, xsl_setW, xtag_setW, xown_setW, xlen_setW, xi_setR, xi_setW, xr_setI, xr_setW, xww_setI, xww_setR, xi_setI, xr_setR, xww_setW, xE_new, xsz_new, xsl_new, t1, t3, t4, t5, xcls, xnm, xcn]; done) | (simp [xE_setI, xsz_setI, xsl_setI, xtag_setI, xown_setI, xlen_setI, xE_setR, xsz_setR, xsl_setR, xtag_setR, xown_setR, xlen_setR, xE_setW, xsz_setW, xsl_setW, xtag_setW, xown_setW, xlen_setW, xi_setR, xi_setW, xr_setI, xr_setW, xww_setI, xww_setR, xi_setI, xr_setR, xww_setW, xE_new, xsz_new, xsl_new, t1, t3, t4, t5]; rfl)) dJ2_remove_21 rfl rfl (Nat.le_of_ble_eq_true rfl)) (SP_J2_fastRemove h0 ho hel i hi) ?_
  intro g21 hc21 hm21
  refine xw_aload_n (pc := 24) dJ2_remove_24 0 rfl ?_
  refine xw_aret (pc := 25) (.object "java/lang/Object") dJ2_remove_25 rfl ?_
  exact ⟨rfl, hc21⟩

