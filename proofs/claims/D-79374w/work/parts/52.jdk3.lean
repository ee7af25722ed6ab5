/-! JDK 3: ArrayList, growing -/
set_option maxRecDepth 100000
theorem SP_J11_newLength {d : Nat} {g : xG} {a b c : Nat} (ha : a < 1000000) (hb : b < 1000000) (hc : c < 1000000) (h0 : 0 < a + max b c) : XM M_J11_newLength (d + 1) [.int (nI a), .int (nI b), .int (nI c)] g (xOne (some (.int (nI (a + max b c)))) g) := by
  refine xm_of (by decide +kernel) (Nat.le_of_ble_eq_true rfl) ?_
  show XW _ _ 0 [(0, _), (1, _), (2, _)] [] _ _
  refine xw_iload_n (pc := 0) dJ11_newLength_0 0 rfl ?_
  refine xw_iload_n (pc := 1) dJ11_newLength_1 1 rfl ?_
  refine xw_iload_n (pc := 2) dJ11_newLength_2 2 rfl ?_
  refine xn_mmax (pc := 3) dJ11_newLength_3 q276 q106 (Nat.le_of_ble_eq_true rfl) (by omega) (by omega) ?_
  refine xn_iadd (pc := 6) dJ11_newLength_6 ?_
  refine xw_istore_n (l' := [(3, _), (0, _), (1, _), (2, _)]) (pc := 7) dJ11_newLength_7 rfl (by decide) rfl ?_
  refine xw_iconst (v := nI 0) (pc := 8) dJ11_newLength_8 rfl ?_
  refine xw_iload_n (pc := 9) dJ11_newLength_9 0 rfl ?_
  refine xw_icmp_ge (pc := 10) 21 dJ11_newLength_10 rfl (fun hb10 => ?_) (fun hb10 => ?_)
  · exfalso
    replace hb10 : (a + (max b c)) ≤ 0 := (nI_leI (a := (a + (max b c))) (b := 0) (by omega) (by omega)).mp hb10
    omega
  replace hb10 : ¬ ((a + (max b c)) ≤ 0) := mt (nI_leI (a := (a + (max b c))) (b := 0) (by omega) (by omega)).mpr hb10
  refine xw_iload_n (pc := 13) dJ11_newLength_13 0 rfl ?_
  refine xw_ldc (v := nI 2147483639) (pc := 14) dJ11_newLength_14 q279 ?_
  refine xw_icmp_gt (pc := 16) 21 dJ11_newLength_16 rfl (fun hb16 => ?_) (fun hb16 => ?_)
  · exfalso
    replace hb16 : 2147483639 < (a + (max b c)) := (nI_ltI (a := 2147483639) (b := (a + (max b c))) (by omega) (by omega)).mp hb16
    omega
  replace hb16 : ¬ (2147483639 < (a + (max b c))) := mt (nI_ltI (a := 2147483639) (b := (a + (max b c))) (by omega) (by omega)).mpr hb16
  refine xw_iload_n (pc := 19) dJ11_newLength_19 0 rfl ?_
  refine xw_iret (pc := 20) .int dJ11_newLength_20 rfl ?_ 
  exact ⟨rfl, rfl⟩

/-- what's copied is an object -/
def xEl (g : xG) (arr k : Nat) : Prop := ∀ i b, i < k → xr g arr i = some b → xObj g b
theorem SP_J13_copyOf_3X {d : Nat} {g : xG} {arr n o : Nat} (t5 : xtag g arr = 108) (hl : xlen g arr < 1000) (hn : n < 1000) (ho : o ≠ 0) (hel : xEl g arr (min (xlen g arr) n)) : XM M_J13_copyOf_3 (d + 1) [.ref arr, .int (nI n), .ref ((xE g).2.2.1 7)] g (xOne (some (.ref (xsz g))) (xPut (xNew g (xBlank 108 o n) n) (xsz g) (xcR (xc (xNew g (xBlank 108 o n) n) (xsz g)) (va_cpy (xr (xNew g (xBlank 108 o n) n) arr) (xr (xNew g (xBlank 108 o n) n) (xsz g)) 0 0 (min (xlen g arr) n))))) := by
  have hlt : arr < xsz g := xlt (by rw [t5]; decide)
  have u1 : xtag (xNew g (xBlank 108 o n) n) arr = 108 := by rw [xtag_new hlt]; exact t5
  have u2 : xlen (xNew g (xBlank 108 o n) n) arr = xlen g arr := xlen_new hlt
  have u3 : xtag (xNew g (xBlank 108 o n) n) (xsz g) = 108 := xtag_newS rfl
  have u4 : xown (xNew g (xBlank 108 o n) n) (xsz g) = o := xown_newS rfl
  have u5 : xlen (xNew g (xBlank 108 o n) n) (xsz g) = n := xlen_newS rfl
  have hel9 : ∀ i b, i < min (xlen g arr) n → xr (xNew g (xBlank 108 o n) n) arr (0 + i) = some b → xcls (xtag (xNew g (xBlank 108 o n) n) b) = true ∧ Cond.castable (xnm (xtag (xNew g (xBlank 108 o n) n) b)) "java/lang/Object" ∈ lw_tbl := by
    intro i b hi hb
    rw [Nat.zero_add, xr_new hlt] at hb
    have hx := hel i b hi hb
    have hbl : b < xsz g := xlt (fun e => by have h9 := hx.1; rw [e] at h9; exact absurd h9 (by decide))
    rw [xtag_new hbl]
    exact hx
  refine xm_of (by decide +kernel) (Nat.le_of_ble_eq_true rfl) ?_
  show XW _ _ 0 [(0, _), (1, _), (2, _)] [] _ _
  refine xw_aload_n (pc := 0) dJ13_copyOf_3_0 2 rfl ?_
  refine xw_ldcM (pc := 1) dJ13_copyOf_3_1 q589 ?_
  refine xw_acmp_ne (ry := (some ((xE g).2.2.1 7))) (rx := (some ((xE g).2.2.1 7))) (pc := 3) 13 dJ13_copyOf_3_3 rfl (fun hb3 => ?_) (fun hb3 => ?_)
  · exfalso
    exact hb3 rfl
  refine xw_iload_n (pc := 6) dJ13_copyOf_3_6 1 rfl ?_
  refine xw_anew (q := 7) (n := n) (pc := 7) o dJ13_copyOf_3_7 (by decide) (by decide) rfl q590 (by decide) (by first | decide | assumption | omega) rfl (by omega) ?_
  refine xw_at (a := (xsz g)) (by rfl) ?_
  refine xw_goto (pc := 10) 24 dJ13_copyOf_3_10 rfl ?_
  refine xw_astore_n (l' := [(3, _), (0, _), (1, _), (2, _)]) (pc := 24) dJ13_copyOf_3_24 rfl (by decide) rfl ?_
  refine xw_aload_n (pc := 25) dJ13_copyOf_3_25 1 rfl ?_
  refine xw_iconst (v := nI 0) (pc := 26) dJ13_copyOf_3_26 rfl ?_
  refine xw_aload_n (pc := 27) dJ13_copyOf_3_27 0 rfl ?_
  refine xw_iconst (v := nI 0) (pc := 28) dJ13_copyOf_3_28 rfl ?_
  refine xw_aload_n (pc := 29) dJ13_copyOf_3_29 1 rfl ?_
  refine xw_alen (q := 7) (pc := 30) dJ13_copyOf_3_30 (by simp [xE_setI, xsz_setI, xsl_setI, xtag_setI, xown_setI, xlen_setI, xE_setR, xsz_setR, xsl_setR, xtag_setR, xown_setR, xlen_setR, xE_setW, xsz_setW, xsl_setW, xtag_setW, xown_setW, xlen_setW, xi_setR, xi_setW, xr_setI, xr_setW, xww_setI, xww_setR, xi_setI, xr_setR, xww_setW, xE_new, xsz_new, xsl_new, u1, u2, u3, u4, u5, t5]) (by decide) ?_
  rw [show xlen _ arr = (xlen g arr) from by simp [xE_setI, xsz_setI, xsl_setI, xtag_setI, xown_setI, xlen_setI, xE_setR, xsz_setR, xsl_setR, xtag_setR, xown_setR, xlen_setR, xE_setW, xsz_setW, xsl_setW, xtag_setW, xown_setW, xlen_setW, xi_setR, xi_setW, xr_setI, xr_setW, xww_setI, xww_setR, xi_setI, xr_setR, xww_setW, xE_new, xsz_new, xsl_new, u1, u2, u3, u4, u5, t5]]
  refine xw_iload_n (pc := 31) dJ13_copyOf_3_31 2 rfl ?_
  refine xn_mmin (pc := 32) dJ13_copyOf_3_32 q294 q106 (Nat.le_of_ble_eq_true rfl) (by omega) (by omega) ?_
  refine xw_copyR (pc := 35) dJ13_copyOf_3_35 q297 (by exact u1) (by exact u3) (by rw [u4]; exact ho) (by rw [u2]; omega) (by rw [u5]; omega) (by exact Nat.le_of_ble_eq_true rfl) (by exact hel9) ?_
  refine xw_aload_n (pc := 38) dJ13_copyOf_3_38 0 rfl ?_
  refine xw_aret (pc := 39) (.array (.object "java/lang/Object")) dJ13_copyOf_3_39 rfl ?_
  exact ⟨rfl, rfl⟩

theorem SP_J13_copyOf_3 {d : Nat} {g : xG} {arr n o : Nat} (t5 : xtag g arr = 108) (hl : xlen g arr < 1000) (hn : n < 1000) (ho : o ≠ 0) (hel : xEl g arr (min (xlen g arr) n)) : XM M_J13_copyOf_3 (d + 1) [.ref arr, .int (nI n), .ref ((xE g).2.2.1 7)] g (xVal (.ref (xsz g)) (fun g' => xtag g' (xsz g) = 108 ∧ xown g' (xsz g) = o ∧ xlen g' (xsz g) = n ∧ (∀ i, i < min (xlen g arr) n → xr g' (xsz g) i = xr g arr i) ∧ xFr oNo (n + 1) g g')) := by
  refine (SP_J13_copyOf_3X t5 hl hn ho hel).mono (fun rs g' hp _ => ?_)
  obtain ⟨rfl, rfl⟩ := hp
  have hlt : arr < xsz g := xlt (by rw [t5]; decide)
  refine ⟨rfl, ?_, ?_, ?_, fun i hi => ?_, ?_⟩
  · rw [xtag_pR, xtag_newS rfl]; rfl
  · rw [xown_pR, xown_newS rfl]; rfl
  · rw [xlen_pR, xlen_newS rfl]; rfl
  · rw [xr_pRS (Nat.lt_succ_self _)]
    show va_cpy _ _ 0 0 _ i = _
    unfold va_cpy
    rw [if_pos (show 0 ≤ i ∧ i < 0 + min (xlen g arr) n from ⟨Nat.zero_le _, by omega⟩), Nat.zero_add, Nat.sub_zero, xr_new hlt]
  · have h1 : xFr oNo (0 + (n + 1)) g (xNew g (xBlank 108 o n) n) := xFr.rf.nw
    exact (h1.pR (Or.inl (Nat.le_refl _))).sub (fun _ h => h) (by omega)
theorem SP_J13_copyOf_2 {d : Nat} {g : xG} {arr n o : Nat} (t5 : xtag g arr = 108) (hl : xlen g arr < 1000) (hn : n < 1000) (ho : o ≠ 0) (hel : xEl g arr (min (xlen g arr) n)) : XM M_J13_copyOf_2 (d + 2) [.ref arr, .int (nI n)] g (xVal (.ref (xsz g)) (fun g' => xtag g' (xsz g) = 108 ∧ xown g' (xsz g) = o ∧ xlen g' (xsz g) = n ∧ (∀ i, i < min (xlen g arr) n → xr g' (xsz g) i = xr g arr i) ∧ xFr oNo (n + 1) g g')) := by
  refine xm_of (by decide +kernel) (Nat.le_of_ble_eq_true rfl) ?_
  show XW _ _ 0 [(0, _), (1, _)] [] _ _
  refine xw_aload_n (pc := 0) dJ13_copyOf_2_0 0 rfl ?_
  refine xw_iload_n (pc := 1) dJ13_copyOf_2_1 1 rfl ?_
  refine xw_aload_n (pc := 2) dJ13_copyOf_2_2 0 rfl ?_
  refine xw_getC (pc := 3) dJ13_copyOf_2_3 q550 t5 (Nat.le_of_ble_eq_true rfl) ?_
  refine xw_callF (pc := 6) (xr_S (as := [_, _, _]) ok_J13_copyOf_3 rfl (by decide) q586 q587 dJ13_copyOf_2_6 rfl rfl (Nat.le_of_ble_eq_true rfl)) (SP_J13_copyOf_3 (o := o) t5 hl hn ho hel) ?_
  intro g6 hc6 hm6
  refine xw_aret (pc := 9) (.array (.object "java/lang/Object")) dJ13_copyOf_2_9 rfl ?_
  exact ⟨rfl, hc6⟩

theorem x_grown {g g1 : xG} {o a arr c : Nat} {ls : List Nat} (h : xAL g o a arr ls) (hf : ls.length = xlen g arr) (hm : ls.length < 100) (hc : ls.length < c) (hc2 : c < 400) (f1 : xtag g1 (xsz g) = 108) (f2 : xown g1 (xsz g) = o) (f3 : xlen g1 (xsz g) = c) (f4 : ∀ i, i < ls.length → xr g1 (xsz g) i = xr g arr i) (F : xFr oNo (c + 1) g g1) : xAL (xsetR g1 a 1 (some (xsz g))) o a (xsz g) ls ∧ ls.length < xlen (xsetR g1 a 1 (some (xsz g))) (xsz g) ∧ xFr (oEq o) 1000 g (xsetR g1 a 1 (some (xsz g))) := by
  obtain ⟨t1, t2, t3, t4, t5, t6, t7, t8, t9⟩ := h
  have ha : a < xsz g := xlt (by rw [t1]; decide)
  have hne : xsz g ≠ a := by omega
  have hn : ¬ oNo (xown g a) := fun q => q
  refine ⟨⟨?_, ?_, ?_, ?_, ?_, Or.inl ?_, ?_, ?_, fun i hi => ?_⟩, ?_, ?_⟩
  · rw [xtag_setR, F.tag ha]; exact t1
  · rw [xown_setR, F.own ha]; exact t2
  · rw [xr_setRS (by rw [F.tag ha, t1]; decide)]
  · rw [xi_setR, F.i' ha hn]; exact t4
  · rw [xtag_setR]; exact f1
  · rw [xown_setR]; exact f2
  · rw [xlen_setR, f3]; omega
  · rw [xlen_setR, f3]; omega
  · rw [xr_setRN hne, f4 i hi]; exact t9 i hi
  · rw [xlen_setR, f3]; exact hc
  · exact ((F.sub (fun _ h => h.elim) (Nat.le_refl _)).sr (Or.inr (by rw [F.own ha]; exact t2))).sub (fun _ h => h) (by omega)
theorem SP_J2_grow_2 {d : Nat} {g : xG} {o a arr : Nat} {ls : List Nat} (h : xAL g o a arr ls) (ho : o ≠ 0) (hel : ∀ i, i < ls.length → xObj g (ls.getD i 0)) (hf : ls.length = xlen g arr) (hm : ls.length < 100) : XM M_J2_grow_2 (d + 3) [.ref a, .int (nI (ls.length + 1))] g (xVal (.ref (xsz g)) (fun g' => xAL g' o a (xsz g) ls ∧ ls.length < xlen g' (xsz g) ∧ xFr (oEq o) 1000 g g')) := by
  have h0 := h
  obtain ⟨t1, t2, t3, t4, t5, t6, t7, t8, t9⟩ := h
  have hna : xown g a ≠ 0 := by rw [t2]; exact ho
  have hlt : arr < xsz g := xlt (by rw [t5]; decide)
  have ha : a < xsz g := xlt (by rw [t1]; decide)
  have hfs : xlen g arr = ls.length := hf.symm
  have hel2 : ∀ k, k ≤ ls.length → xEl g arr k := fun k hk i b hi hb => by
    have e := t9 i (by omega)
    rw [hb] at e
    have e2 : b = ls.getD i 0 := Option.some.inj e
    rw [e2]
    exact hel i (by omega)
  refine xm_of (by decide +kernel) (Nat.le_of_ble_eq_true rfl) ?_
  show XW _ _ 0 [(0, _), (1, _)] [] _ _
  refine xw_aload_n (pc := 0) dJ2_grow_2_0 0 rfl ?_
  refine xw_getS (b := arr) (pc := 1) fd_J2_9 dJ2_grow_2_1 (by first | assumption | (simp (disch := (first | omega | (simp only [xE_setI, xsz_setI, xsl_setI, xtag_setI, xown_setI, xlen_setI, xE_setR, xsz_setR, xsl_setR, xtag_setR, xown_setR, xlen_setR, xE_setW, xsz_setW, xsl_setW, xtag_setW, xown_setW, xlen_setW, xi_setR, xi_setW, xr_setI, xr_setW, xww_setI, xww_setR, xi_setI, xr_setR, xww_setW, xE_new, xsz_new, xsl_new]; omega))) [xE_setI, xsz_setI, xsl_setI, xtag_setI, xown_setI, xlen_setI, xE_setR, xsz_setR, xsl_setR, xtag_setR, xown_setR, xlen_setR, xE_setW, xsz_setW, xsl_setW, xtag_setW, xown_setW, xlen_setW, xi_setR, xi_setW, xr_setI, xr_setW, xww_setI, xww_setR, xi_setI, xr_setR, xww_setW, xE_new, xsz_new, xsl_new, xtag_new, xown_new, xlen_new, xi_new, xr_new, xww_new, xtag_newS, xown_newS, xlen_newS, xi_newS, xr_newS, xww_newS, t1, t3, t5, hfs, hna, xsub]; done) | (simp (disch := (first | omega | (simp only [xE_setI, xsz_setI, xsl_setI, xtag_setI, xown_setI, xlen_setI, xE_setR, xsz_setR, xsl_setR, xtag_setR, xown_setR, xlen_setR, xE_setW, xsz_setW, xsl_setW, xtag_setW, xown_setW, xlen_setW, xi_setR, xi_setW, xr_setI, xr_setW, xww_setI, xww_setR, xi_setI, xr_setR, xww_setW, xE_new, xsz_new, xsl_new]; omega))) [xE_setI, xsz_setI, xsl_setI, xtag_setI, xown_setI, xlen_setI, xE_setR, xsz_setR, xsl_setR, xtag_setR, xown_setR, xlen_setR, xE_setW, xsz_setW, xsl_setW, xtag_setW, xown_setW, xlen_setW, xi_setR, xi_setW, xr_setI, xr_setW, xww_setI, xww_setR, xi_setI, xr_setR, xww_setW, xE_new, xsz_new, xsl_new, xtag_new, xown_new, xlen_new, xi_new, xr_new, xww_new, xtag_newS, xown_newS, xlen_newS, xi_newS, xr_newS, xww_newS, t1, t3, t5, hfs, hna] <;> rfl)) (by simp (disch := (first | omega | (simp only [xE_setI, xsz_setI, xsl_setI, xtag_setI, xown_setI, xlen_setI, xE_setR, xsz_setR, xsl_setR, xtag_setR, xown_setR, xlen_setR, xE_setW, xsz_setW, xsl_setW, xtag_setW, xown_setW, xlen_setW, xi_setR, xi_setW, xr_setI, xr_setW, xww_setI, xww_setR, xi_setI, xr_setR, xww_setW, xE_new, xsz_new, xsl_new]; omega))) [xE_setI, xsz_setI, xsl_setI, xtag_setI, xown_setI, xlen_setI, xE_setR, xsz_setR, xsl_setR, xtag_setR, xown_setR, xlen_setR, xE_setW, xsz_setW, xsl_setW, xtag_setW, xown_setW, xlen_setW, xi_setR, xi_setW, xr_setI, xr_setW, xww_setI, xww_setR, xi_setI, xr_setR, xww_setW, xE_new, xsz_new, xsl_new, xtag_new, xown_new, xlen_new, xi_new, xr_new, xww_new, xtag_newS, xown_newS, xlen_newS, xi_newS, xr_newS, xww_newS, t1, t3, t5, hfs, hna]) ?_
  refine xw_alen (q := 7) (pc := 4) dJ2_grow_2_4 (by simp (disch := (first | omega | (simp only [xE_setI, xsz_setI, xsl_setI, xtag_setI, xown_setI, xlen_setI, xE_setR, xsz_setR, xsl_setR, xtag_setR, xown_setR, xlen_setR, xE_setW, xsz_setW, xsl_setW, xtag_setW, xown_setW, xlen_setW, xi_setR, xi_setW, xr_setI, xr_setW, xww_setI, xww_setR, xi_setI, xr_setR, xww_setW, xE_new, xsz_new, xsl_new]; omega))) [xE_setI, xsz_setI, xsl_setI, xtag_setI, xown_setI, xlen_setI, xE_setR, xsz_setR, xsl_setR, xtag_setR, xown_setR, xlen_setR, xE_setW, xsz_setW, xsl_setW, xtag_setW, xown_setW, xlen_setW, xi_setR, xi_setW, xr_setI, xr_setW, xww_setI, xww_setR, xi_setI, xr_setR, xww_setW, xE_new, xsz_new, xsl_new, xtag_new, xown_new, xlen_new, xi_new, xr_new, xww_new, xtag_newS, xown_newS, xlen_newS, xi_newS, xr_newS, xww_newS, t1, t3, t5, hfs, hna]) (by decide) ?_
  rw [show xlen _ arr = ls.length from by simp (disch := (first | omega | (simp only [xE_setI, xsz_setI, xsl_setI, xtag_setI, xown_setI, xlen_setI, xE_setR, xsz_setR, xsl_setR, xtag_setR, xown_setR, xlen_setR, xE_setW, xsz_setW, xsl_setW, xtag_setW, xown_setW, xlen_setW, xi_setR, xi_setW, xr_setI, xr_setW, xww_setI, xww_setR, xi_setI, xr_setR, xww_setW, xE_new, xsz_new, xsl_new]; omega))) [xE_setI, xsz_setI, xsl_setI, xtag_setI, xown_setI, xlen_setI, xE_setR, xsz_setR, xsl_setR, xtag_setR, xown_setR, xlen_setR, xE_setW, xsz_setW, xsl_setW, xtag_setW, xown_setW, xlen_setW, xi_setR, xi_setW, xr_setI, xr_setW, xww_setI, xww_setR, xi_setI, xr_setR, xww_setW, xE_new, xsz_new, xsl_new, xtag_new, xown_new, xlen_new, xi_new, xr_new, xww_new, xtag_newS, xown_newS, xlen_newS, xi_newS, xr_newS, xww_newS, t1, t3, t5, hfs, hna]]
  refine xw_istore_n (l' := [(2, _), (0, _), (1, _)]) (pc := 5) dJ2_grow_2_5 rfl (by decide) rfl ?_
  refine xw_iload_n (pc := 6) dJ2_grow_2_6 0 rfl ?_
  refine xw_if_gt (pc := 7) 20 dJ2_grow_2_7 rfl (fun hb7 => ?_) (fun hb7 => ?_)
  · replace hb7 : 0 < ls.length := (nI_ltI (a := 0) (b := ls.length) (by omega) (by omega)).mp hb7
    refine xw_iload_n (pc := 20) dJ2_grow_2_20 0 rfl ?_
    refine xw_iload_n (pc := 21) dJ2_grow_2_21 2 rfl ?_
    refine xw_iload_n (pc := 22) dJ2_grow_2_22 0 rfl ?_
    refine xn_isub (pc := 23) dJ2_grow_2_23 (by omega) ?_
    refine xw_iload_n (pc := 24) dJ2_grow_2_24 0 rfl ?_
    refine xw_iconst (v := nI 1) (pc := 25) dJ2_grow_2_25 rfl ?_
    refine xn_ishr (c := (ls.length / 2)) (pc := 26) dJ2_grow_2_26 (by decide) (by omega) (by omega) ?_
    refine xw_callV (pc := 27) (xr_S (as := [_, _, _]) ok_J11_newLength rfl (by decide) q546 q274 dJ2_grow_2_27 rfl rfl (Nat.le_of_ble_eq_true rfl)) (SP_J11_newLength (by omega) (by omega) (by omega) (by omega)) ?_
    refine xw_istore_n (l' := [(3, _), (2, _), (0, _), (1, _)]) (pc := 30) dJ2_grow_2_30 rfl (by decide) rfl ?_
    refine xw_aload_n (pc := 31) dJ2_grow_2_31 2 rfl ?_
    refine xw_aload_n (pc := 32) dJ2_grow_2_32 2 rfl ?_
    refine xw_getS (b := arr) (pc := 33) fd_J2_9 dJ2_grow_2_33 (by first | assumption | (simp (disch := (first | omega | (simp only [xE_setI, xsz_setI, xsl_setI, xtag_setI, xown_setI, xlen_setI, xE_setR, xsz_setR, xsl_setR, xtag_setR, xown_setR, xlen_setR, xE_setW, xsz_setW, xsl_setW, xtag_setW, xown_setW, xlen_setW, xi_setR, xi_setW, xr_setI, xr_setW, xww_setI, xww_setR, xi_setI, xr_setR, xww_setW, xE_new, xsz_new, xsl_new]; omega))) [xE_setI, xsz_setI, xsl_setI, xtag_setI, xown_setI, xlen_setI, xE_setR, xsz_setR, xsl_setR, xtag_setR, xown_setR, xlen_setR, xE_setW, xsz_setW, xsl_setW, xtag_setW, xown_setW, xlen_setW, xi_setR, xi_setW, xr_setI, xr_setW, xww_setI, xww_setR, xi_setI, xr_setR, xww_setW, xE_new, xsz_new, xsl_new, xtag_new, xown_new, xlen_new, xi_new, xr_new, xww_new, xtag_newS, xown_newS, xlen_newS, xi_newS, xr_newS, xww_newS, t1, t3, t5, hfs, hna, xsub]; done) | (simp (disch := (first | omega | (simp only [xE_setI, xsz_setI, xsl_setI, xtag_setI, xown_setI, xlen_setI, xE_setR, xsz_setR, xsl_setR, xtag_setR, xown_setR, xlen_setR, xE_setW, xsz_setW, xsl_setW, xtag_setW, xown_setW, xlen_setW, xi_setR, xi_setW, xr_setI, xr_setW, xww_setI, xww_setR, xi_setI, xr_setR, xww_setW, xE_new, xsz_new, xsl_new]; omega))) [xE_setI, xsz_setI, xsl_setI, xtag_setI, xown_setI, xlen_setI, xE_setR, xsz_setR, xsl_setR, xtag_setR, xown_setR, xlen_setR, xE_setW, xsz_setW, xsl_setW, xtag_setW, xown_setW, xlen_setW, xi_setR, xi_setW, xr_setI, xr_setW, xww_setI, xww_setR, xi_setI, xr_setR, xww_setW, xE_new, xsz_new, xsl_new, xtag_new, xown_new, xlen_new, xi_new, xr_new, xww_new, xtag_newS, xown_newS, xlen_newS, xi_newS, xr_newS, xww_newS, t1, t3, t5, hfs, hna] <;> rfl)) (by simp (disch := (first | omega | (simp only [xE_setI, xsz_setI, xsl_setI, xtag_setI, xown_setI, xlen_setI, xE_setR, xsz_setR, xsl_setR, xtag_setR, xown_setR, xlen_setR, xE_setW, xsz_setW, xsl_setW, xtag_setW, xown_setW, xlen_setW, xi_setR, xi_setW, xr_setI, xr_setW, xww_setI, xww_setR, xi_setI, xr_setR, xww_setW, xE_new, xsz_new, xsl_new]; omega))) [xE_setI, xsz_setI, xsl_setI, xtag_setI, xown_setI, xlen_setI, xE_setR, xsz_setR, xsl_setR, xtag_setR, xown_setR, xlen_setR, xE_setW, xsz_setW, xsl_setW, xtag_setW, xown_setW, xlen_setW, xi_setR, xi_setW, xr_setI, xr_setW, xww_setI, xww_setR, xi_setI, xr_setR, xww_setW, xE_new, xsz_new, xsl_new, xtag_new, xown_new, xlen_new, xi_new, xr_new, xww_new, xtag_newS, xown_newS, xlen_newS, xi_newS, xr_newS, xww_newS, t1, t3, t5, hfs, hna]) ?_
    refine xw_iload_n (pc := 36) dJ2_grow_2_36 0 rfl ?_
    refine xw_callF (pc := 37) (xr_S (as := [_, _]) ok_J13_copyOf_2 rfl (by decide) q547 q548 dJ2_grow_2_37 rfl rfl (Nat.le_of_ble_eq_true rfl)) (SP_J13_copyOf_2 (o := o) t5 (by omega) (by omega) ho (hel2 _ (by omega))) ?_
    intro g37 hc37 hm37
    rw [show min (xlen g arr) (ls.length + max (ls.length + 1 - ls.length) (ls.length / 2)) = ls.length from by omega] at hc37
    have v1 : xtag g37 a = 18 := by rw [hc37.2.2.2.2.tag ha]; exact t1
    have v2 : xown g37 a ≠ 0 := by rw [hc37.2.2.2.2.own ha]; exact hna
    refine xw_dup_x1 (pc := 40) dJ2_grow_2_40 rfl rfl ?_
    refine xw_putR (o := (some (xsz g))) (pc := 41) fd_J2_9 (xfin_of (by decide) (by decide +kernel)) dJ2_grow_2_41 (by first | assumption | (simp (disch := (first | omega | (simp only [xE_setI, xsz_setI, xsl_setI, xtag_setI, xown_setI, xlen_setI, xE_setR, xsz_setR, xsl_setR, xtag_setR, xown_setR, xlen_setR, xE_setW, xsz_setW, xsl_setW, xtag_setW, xown_setW, xlen_setW, xi_setR, xi_setW, xr_setI, xr_setW, xww_setI, xww_setR, xi_setI, xr_setR, xww_setW, xE_new, xsz_new, xsl_new]; omega))) [xE_setI, xsz_setI, xsl_setI, xtag_setI, xown_setI, xlen_setI, xE_setR, xsz_setR, xsl_setR, xtag_setR, xown_setR, xlen_setR, xE_setW, xsz_setW, xsl_setW, xtag_setW, xown_setW, xlen_setW, xi_setR, xi_setW, xr_setI, xr_setW, xww_setI, xww_setR, xi_setI, xr_setR, xww_setW, xE_new, xsz_new, xsl_new, xtag_new, xown_new, xlen_new, xi_new, xr_new, xww_new, xtag_newS, xown_newS, xlen_newS, xi_newS, xr_newS, xww_newS, t1, t3, t5, hfs, hna, v1, v2, xsub]; done) | (simp (disch := (first | omega | (simp only [xE_setI, xsz_setI, xsl_setI, xtag_setI, xown_setI, xlen_setI, xE_setR, xsz_setR, xsl_setR, xtag_setR, xown_setR, xlen_setR, xE_setW, xsz_setW, xsl_setW, xtag_setW, xown_setW, xlen_setW, xi_setR, xi_setW, xr_setI, xr_setW, xww_setI, xww_setR, xi_setI, xr_setR, xww_setW, xE_new, xsz_new, xsl_new]; omega))) [xE_setI, xsz_setI, xsl_setI, xtag_setI, xown_setI, xlen_setI, xE_setR, xsz_setR, xsl_setR, xtag_setR, xown_setR, xlen_setR, xE_setW, xsz_setW, xsl_setW, xtag_setW, xown_setW, xlen_setW, xi_setR, xi_setW, xr_setI, xr_setW, xww_setI, xww_setR, xi_setI, xr_setR, xww_setW, xE_new, xsz_new, xsl_new, xtag_new, xown_new, xlen_new, xi_new, xr_new, xww_new, xtag_newS, xown_newS, xlen_newS, xi_newS, xr_newS, xww_newS, t1, t3, t5, hfs, hna, v1, v2] <;> rfl)) (by first | assumption | (simp (disch := (first | omega | (simp only [xE_setI, xsz_setI, xsl_setI, xtag_setI, xown_setI, xlen_setI, xE_setR, xsz_setR, xsl_setR, xtag_setR, xown_setR, xlen_setR, xE_setW, xsz_setW, xsl_setW, xtag_setW, xown_setW, xlen_setW, xi_setR, xi_setW, xr_setI, xr_setW, xww_setI, xww_setR, xi_setI, xr_setR, xww_setW, xE_new, xsz_new, xsl_new]; omega))) [xE_setI, xsz_setI, xsl_setI, xtag_setI, xown_setI, xlen_setI, xE_setR, xsz_setR, xsl_setR, xtag_setR, xown_setR, xlen_setR, xE_setW, xsz_setW, xsl_setW, xtag_setW, xown_setW, xlen_setW, xi_setR, xi_setW, xr_setI, xr_setW, xww_setI, xww_setR, xi_setI, xr_setR, xww_setW, xE_new, xsz_new, xsl_new, xtag_new, xown_new, xlen_new, xi_new, xr_new, xww_new, xtag_newS, xown_newS, xlen_newS, xi_newS, xr_newS, xww_newS, t1, t3, t5, hfs, hna, v1, v2]; done) | (simp (disch := (first | omega | (simp only [xE_setI, xsz_setI, xsl_setI, xtag_setI, xown_setI, xlen_setI, xE_setR, xsz_setR, xsl_setR, xtag_setR, xown_setR, xlen_setR, xE_setW, xsz_setW, xsl_setW, xtag_setW, xown_setW, xlen_setW, xi_setR, xi_setW, xr_setI, xr_setW, xww_setI, xww_setR, xi_setI, xr_setR, xww_setW, xE_new, xsz_new, xsl_new]; omega))) [xE_setI, xsz_setI, xsl_setI, xtag_setI, xown_setI, xlen_setI, xE_setR, xsz_setR, xsl_setR, xtag_setR, xown_setR, xlen_setR, xE_setW, xsz_setW, xsl_setW, xtag_setW, xown_setW, xlen_setW, xi_setR, xi_setW, xr_setI, xr_setW, xww_setI, xww_setR, xi_setI, xr_setR, xww_setW, xE_new, xsz_new, xsl_new, xtag_new, xown_new, xlen_new, xi_new, xr_new, xww_new, xtag_newS, xown_newS, xlen_newS, xi_newS, xr_newS, xww_newS, t1, t3, t5, hfs, hna, v1, v2]; assumption)) rfl ?_
    refine xw_aret (pc := 44) (.array (.object "java/lang/Object")) dJ2_grow_2_44 rfl ?_
    refine ⟨rfl, x_grown (c := ls.length + max (ls.length + 1 - ls.length) (ls.length / 2)) h0 hf hm (by omega) (by omega) hc37.1 hc37.2.1 hc37.2.2.1 (fun i hi => hc37.2.2.2.1 i (by omega)) hc37.2.2.2.2⟩
  · replace hb7 : ¬ (0 < ls.length) := mt (nI_ltI (a := 0) (b := ls.length) (by omega) (by omega)).mpr hb7
    refine xw_aload_n (pc := 10) dJ2_grow_2_10 1 rfl ?_
    refine xw_getS (b := arr) (pc := 11) fd_J2_9 dJ2_grow_2_11 (by first | assumption | (simp (disch := (first | omega | (simp only [xE_setI, xsz_setI, xsl_setI, xtag_setI, xown_setI, xlen_setI, xE_setR, xsz_setR, xsl_setR, xtag_setR, xown_setR, xlen_setR, xE_setW, xsz_setW, xsl_setW, xtag_setW, xown_setW, xlen_setW, xi_setR, xi_setW, xr_setI, xr_setW, xww_setI, xww_setR, xi_setI, xr_setR, xww_setW, xE_new, xsz_new, xsl_new]; omega))) [xE_setI, xsz_setI, xsl_setI, xtag_setI, xown_setI, xlen_setI, xE_setR, xsz_setR, xsl_setR, xtag_setR, xown_setR, xlen_setR, xE_setW, xsz_setW, xsl_setW, xtag_setW, xown_setW, xlen_setW, xi_setR, xi_setW, xr_setI, xr_setW, xww_setI, xww_setR, xi_setI, xr_setR, xww_setW, xE_new, xsz_new, xsl_new, xtag_new, xown_new, xlen_new, xi_new, xr_new, xww_new, xtag_newS, xown_newS, xlen_newS, xi_newS, xr_newS, xww_newS, t1, t3, t5, hfs, hna, xsub]; done) | (simp (disch := (first | omega | (simp only [xE_setI, xsz_setI, xsl_setI, xtag_setI, xown_setI, xlen_setI, xE_setR, xsz_setR, xsl_setR, xtag_setR, xown_setR, xlen_setR, xE_setW, xsz_setW, xsl_setW, xtag_setW, xown_setW, xlen_setW, xi_setR, xi_setW, xr_setI, xr_setW, xww_setI, xww_setR, xi_setI, xr_setR, xww_setW, xE_new, xsz_new, xsl_new]; omega))) [xE_setI, xsz_setI, xsl_setI, xtag_setI, xown_setI, xlen_setI, xE_setR, xsz_setR, xsl_setR, xtag_setR, xown_setR, xlen_setR, xE_setW, xsz_setW, xsl_setW, xtag_setW, xown_setW, xlen_setW, xi_setR, xi_setW, xr_setI, xr_setW, xww_setI, xww_setR, xi_setI, xr_setR, xww_setW, xE_new, xsz_new, xsl_new, xtag_new, xown_new, xlen_new, xi_new, xr_new, xww_new, xtag_newS, xown_newS, xlen_newS, xi_newS, xr_newS, xww_newS, t1, t3, t5, hfs, hna] <;> rfl)) (by simp (disch := (first | omega | (simp only [xE_setI, xsz_setI, xsl_setI, xtag_setI, xown_setI, xlen_setI, xE_setR, xsz_setR, xsl_setR, xtag_setR, xown_setR, xlen_setR, xE_setW, xsz_setW, xsl_setW, xtag_setW, xown_setW, xlen_setW, xi_setR, xi_setW, xr_setI, xr_setW, xww_setI, xww_setR, xi_setI, xr_setR, xww_setW, xE_new, xsz_new, xsl_new]; omega))) [xE_setI, xsz_setI, xsl_setI, xtag_setI, xown_setI, xlen_setI, xE_setR, xsz_setR, xsl_setR, xtag_setR, xown_setR, xlen_setR, xE_setW, xsz_setW, xsl_setW, xtag_setW, xown_setW, xlen_setW, xi_setR, xi_setW, xr_setI, xr_setW, xww_setI, xww_setR, xi_setI, xr_setR, xww_setW, xE_new, xsz_new, xsl_new, xtag_new, xown_new, xlen_new, xi_new, xr_new, xww_new, xtag_newS, xown_newS, xlen_newS, xi_newS, xr_newS, xww_newS, t1, t3, t5, hfs, hna]) ?_
    refine xw_gets (i := 4) (pc := 14) dJ2_grow_2_14 rfl q544 ?_
    refine xw_acmp_eq (ry := (some ((xE g).2.2.1 4))) (rx := (some arr)) (pc := 17) 45 dJ2_grow_2_17 rfl (fun hb17 => ?_) (fun hb17 => ?_)
    · refine xw_aload_n (pc := 45) dJ2_grow_2_45 1 rfl ?_
      refine xw_bipush (v := nI 10) (pc := 46) dJ2_grow_2_46 (by decide +kernel) ?_
      refine xw_iload_n (pc := 48) dJ2_grow_2_48 2 rfl ?_
      refine xn_mmax (pc := 49) dJ2_grow_2_49 q591 q106 (Nat.le_of_ble_eq_true rfl) (by omega) (by omega) ?_
      refine xw_anew (q := 7) (n := (max 10 (ls.length + 1))) (pc := 52) o dJ2_grow_2_52 (by decide) (by decide) rfl q169 (by decide) (by first | decide | assumption | omega) rfl (by omega) ?_
      refine xw_at (a := (xsz g)) (by rfl) ?_
      refine xw_dup_x1 (pc := 55) dJ2_grow_2_55 rfl rfl ?_
      refine xw_putR (o := (some (xsz g))) (pc := 56) fd_J2_9 (xfin_of (by decide) (by decide +kernel)) dJ2_grow_2_56 (by first | assumption | (simp (disch := (first | omega | (simp only [xE_setI, xsz_setI, xsl_setI, xtag_setI, xown_setI, xlen_setI, xE_setR, xsz_setR, xsl_setR, xtag_setR, xown_setR, xlen_setR, xE_setW, xsz_setW, xsl_setW, xtag_setW, xown_setW, xlen_setW, xi_setR, xi_setW, xr_setI, xr_setW, xww_setI, xww_setR, xi_setI, xr_setR, xww_setW, xE_new, xsz_new, xsl_new]; omega))) [xE_setI, xsz_setI, xsl_setI, xtag_setI, xown_setI, xlen_setI, xE_setR, xsz_setR, xsl_setR, xtag_setR, xown_setR, xlen_setR, xE_setW, xsz_setW, xsl_setW, xtag_setW, xown_setW, xlen_setW, xi_setR, xi_setW, xr_setI, xr_setW, xww_setI, xww_setR, xi_setI, xr_setR, xww_setW, xE_new, xsz_new, xsl_new, xtag_new, xown_new, xlen_new, xi_new, xr_new, xww_new, xtag_newS, xown_newS, xlen_newS, xi_newS, xr_newS, xww_newS, t1, t3, t5, hfs, hna, xsub]; done) | (simp (disch := (first | omega | (simp only [xE_setI, xsz_setI, xsl_setI, xtag_setI, xown_setI, xlen_setI, xE_setR, xsz_setR, xsl_setR, xtag_setR, xown_setR, xlen_setR, xE_setW, xsz_setW, xsl_setW, xtag_setW, xown_setW, xlen_setW, xi_setR, xi_setW, xr_setI, xr_setW, xww_setI, xww_setR, xi_setI, xr_setR, xww_setW, xE_new, xsz_new, xsl_new]; omega))) [xE_setI, xsz_setI, xsl_setI, xtag_setI, xown_setI, xlen_setI, xE_setR, xsz_setR, xsl_setR, xtag_setR, xown_setR, xlen_setR, xE_setW, xsz_setW, xsl_setW, xtag_setW, xown_setW, xlen_setW, xi_setR, xi_setW, xr_setI, xr_setW, xww_setI, xww_setR, xi_setI, xr_setR, xww_setW, xE_new, xsz_new, xsl_new, xtag_new, xown_new, xlen_new, xi_new, xr_new, xww_new, xtag_newS, xown_newS, xlen_newS, xi_newS, xr_newS, xww_newS, t1, t3, t5, hfs, hna] <;> rfl)) (by first | assumption | (simp (disch := (first | omega | (simp only [xE_setI, xsz_setI, xsl_setI, xtag_setI, xown_setI, xlen_setI, xE_setR, xsz_setR, xsl_setR, xtag_setR, xown_setR, xlen_setR, xE_setW, xsz_setW, xsl_setW, xtag_setW, xown_setW, xlen_setW, xi_setR, xi_setW, xr_setI, xr_setW, xww_setI, xww_setR, xi_setI, xr_setR, xww_setW, xE_new, xsz_new, xsl_new]; omega))) [xE_setI, xsz_setI, xsl_setI, xtag_setI, xown_setI, xlen_setI, xE_setR, xsz_setR, xsl_setR, xtag_setR, xown_setR, xlen_setR, xE_setW, xsz_setW, xsl_setW, xtag_setW, xown_setW, xlen_setW, xi_setR, xi_setW, xr_setI, xr_setW, xww_setI, xww_setR, xi_setI, xr_setR, xww_setW, xE_new, xsz_new, xsl_new, xtag_new, xown_new, xlen_new, xi_new, xr_new, xww_new, xtag_newS, xown_newS, xlen_newS, xi_newS, xr_newS, xww_newS, t1, t3, t5, hfs, hna]; done) | (simp (disch := (first | omega | (simp only [xE_setI, xsz_setI, xsl_setI, xtag_setI, xown_setI, xlen_setI, xE_setR, xsz_setR, xsl_setR, xtag_setR, xown_setR, xlen_setR, xE_setW, xsz_setW, xsl_setW, xtag_setW, xown_setW, xlen_setW, xi_setR, xi_setW, xr_setI, xr_setW, xww_setI, xww_setR, xi_setI, xr_setR, xww_setW, xE_new, xsz_new, xsl_new]; omega))) [xE_setI, xsz_setI, xsl_setI, xtag_setI, xown_setI, xlen_setI, xE_setR, xsz_setR, xsl_setR, xtag_setR, xown_setR, xlen_setR, xE_setW, xsz_setW, xsl_setW, xtag_setW, xown_setW, xlen_setW, xi_setR, xi_setW, xr_setI, xr_setW, xww_setI, xww_setR, xi_setI, xr_setR, xww_setW, xE_new, xsz_new, xsl_new, xtag_new, xown_new, xlen_new, xi_new, xr_new, xww_new, xtag_newS, xown_newS, xlen_newS, xi_newS, xr_newS, xww_newS, t1, t3, t5, hfs, hna]; assumption)) rfl ?_
      refine xw_aret (pc := 59) (.array (.object "java/lang/Object")) dJ2_grow_2_59 rfl ?_
      refine ⟨rfl, ?_⟩
      have e10 : max 10 (ls.length + 1) = max 10 (ls.length + 1) := rfl
      refine x_grown (c := max 10 (ls.length + 1)) h0 hf hm (by omega) (by omega) (xtag_newS rfl) (xown_newS rfl) (xlen_newS rfl) (fun i hi => ?_) (by have F9 := (xFr.rf (O := oNo) (n := 0) (g := g)).nw (c := xBlank 108 o (max 10 (ls.length + 1))) (k := max 10 (ls.length + 1)); rw [Nat.zero_add] at F9; exact F9)
      exact absurd hi (by omega)
    · refine xw_iload_n (pc := 20) dJ2_grow_2_20 0 rfl ?_
      refine xw_iload_n (pc := 21) dJ2_grow_2_21 2 rfl ?_
      refine xw_iload_n (pc := 22) dJ2_grow_2_22 0 rfl ?_
      refine xn_isub (pc := 23) dJ2_grow_2_23 (by omega) ?_
      refine xw_iload_n (pc := 24) dJ2_grow_2_24 0 rfl ?_
      refine xw_iconst (v := nI 1) (pc := 25) dJ2_grow_2_25 rfl ?_
      refine xn_ishr (c := (ls.length / 2)) (pc := 26) dJ2_grow_2_26 (by decide) (by omega) (by omega) ?_
      refine xw_callV (pc := 27) (xr_S (as := [_, _, _]) ok_J11_newLength rfl (by decide) q546 q274 dJ2_grow_2_27 rfl rfl (Nat.le_of_ble_eq_true rfl)) (SP_J11_newLength (by omega) (by omega) (by omega) (by omega)) ?_
      refine xw_istore_n (l' := [(3, _), (2, _), (0, _), (1, _)]) (pc := 30) dJ2_grow_2_30 rfl (by decide) rfl ?_
      refine xw_aload_n (pc := 31) dJ2_grow_2_31 2 rfl ?_
      refine xw_aload_n (pc := 32) dJ2_grow_2_32 2 rfl ?_
      refine xw_getS (b := arr) (pc := 33) fd_J2_9 dJ2_grow_2_33 (by first | assumption | (simp (disch := (first | omega | (simp only [xE_setI, xsz_setI, xsl_setI, xtag_setI, xown_setI, xlen_setI, xE_setR, xsz_setR, xsl_setR, xtag_setR, xown_setR, xlen_setR, xE_setW, xsz_setW, xsl_setW, xtag_setW, xown_setW, xlen_setW, xi_setR, xi_setW, xr_setI, xr_setW, xww_setI, xww_setR, xi_setI, xr_setR, xww_setW, xE_new, xsz_new, xsl_new]; omega))) [xE_setI, xsz_setI, xsl_setI, xtag_setI, xown_setI, xlen_setI, xE_setR, xsz_setR, xsl_setR, xtag_setR, xown_setR, xlen_setR, xE_setW, xsz_setW, xsl_setW, xtag_setW, xown_setW, xlen_setW, xi_setR, xi_setW, xr_setI, xr_setW, xww_setI, xww_setR, xi_setI, xr_setR, xww_setW, xE_new, xsz_new, xsl_new, xtag_new, xown_new, xlen_new, xi_new, xr_new, xww_new, xtag_newS, xown_newS, xlen_newS, xi_newS, xr_newS, xww_newS, t1, t3, t5, hfs, hna, xsub]; done) | (simp (disch := (first | omega | (simp only [xE_setI, xsz_setI, xsl_setI, xtag_setI, xown_setI, xlen_setI, xE_setR, xsz_setR, xsl_setR, xtag_setR, xown_setR, xlen_setR, xE_setW, xsz_setW, xsl_setW, xtag_setW, xown_setW, xlen_setW, xi_setR, xi_setW, xr_setI, xr_setW, xww_setI, xww_setR, xi_setI, xr_setR, xww_setW, xE_new, xsz_new, xsl_new]; omega))) [xE_setI, xsz_setI, xsl_setI, xtag_setI, xown_setI, xlen_setI, xE_setR, xsz_setR, xsl_setR, xtag_setR, xown_setR, xlen_setR, xE_setW, xsz_setW, xsl_setW, xtag_setW, xown_setW, xlen_setW, xi_setR, xi_setW, xr_setI, xr_setW, xww_setI, xww_setR, xi_setI, xr_setR, xww_setW, xE_new, xsz_new, xsl_new, xtag_new, xown_new, xlen_new, xi_new, xr_new, xww_new, xtag_newS, xown_newS, xlen_newS, xi_newS, xr_newS, xww_newS, t1, t3, t5, hfs, hna] <;> rfl)) (by simp (disch := (first | omega | (simp only [xE_setI, xsz_setI, xsl_setI, xtag_setI, xown_setI, xlen_setI, xE_setR, xsz_setR, xsl_setR, xtag_setR, xown_setR, xlen_setR, xE_setW, xsz_setW, xsl_setW, xtag_setW, xown_setW, xlen_setW, xi_setR, xi_setW, xr_setI, xr_setW, xww_setI, xww_setR, xi_setI, xr_setR, xww_setW, xE_new, xsz_new, xsl_new]; omega))) [xE_setI, xsz_setI, xsl_setI, xtag_setI, xown_setI, xlen_setI, xE_setR, xsz_setR, xsl_setR, xtag_setR, xown_setR, xlen_setR, xE_setW, xsz_setW, xsl_setW, xtag_setW, xown_setW, xlen_setW, xi_setR, xi_setW, xr_setI, xr_setW, xww_setI, xww_setR, xi_setI, xr_setR, xww_setW, xE_new, xsz_new, xsl_new, xtag_new, xown_new, xlen_new, xi_new, xr_new, xww_new, xtag_newS, xown_newS, xlen_newS, xi_newS, xr_newS, xww_newS, t1, t3, t5, hfs, hna]) ?_
      refine xw_iload_n (pc := 36) dJ2_grow_2_36 0 rfl ?_
      refine xw_callF (pc := 37) (xr_S (as := [_, _]) ok_J13_copyOf_2 rfl (by decide) q547 q548 dJ2_grow_2_37 rfl rfl (Nat.le_of_ble_eq_true rfl)) (SP_J13_copyOf_2 (o := o) t5 (by omega) (by omega) ho (hel2 _ (by omega))) ?_
      intro g37 hc37 hm37
      rw [show min (xlen g arr) (ls.length + max (ls.length + 1 - ls.length) (ls.length / 2)) = ls.length from by omega] at hc37
      have v1 : xtag g37 a = 18 := by rw [hc37.2.2.2.2.tag ha]; exact t1
      have v2 : xown g37 a ≠ 0 := by rw [hc37.2.2.2.2.own ha]; exact hna
      refine xw_dup_x1 (pc := 40) dJ2_grow_2_40 rfl rfl ?_
      refine xw_putR (o := (some (xsz g))) (pc := 41) fd_J2_9 (xfin_of (by decide) (by decide +kernel)) dJ2_grow_2_41 (by first | assumption | (simp (disch := (first | omega | (simp only [xE_setI, xsz_setI, xsl_setI, xtag_setI, xown_setI, xlen_setI, xE_setR, xsz_setR, xsl_setR, xtag_setR, xown_setR, xlen_setR, xE_setW, xsz_setW, xsl_setW, xtag_setW, xown_setW, xlen_setW, xi_setR, xi_setW, xr_setI, xr_setW, xww_setI, xww_setR, xi_setI, xr_setR, xww_setW, xE_new, xsz_new, xsl_new]; omega))) [xE_setI, xsz_setI, xsl_setI, xtag_setI, xown_setI, xlen_setI, xE_setR, xsz_setR, xsl_setR, xtag_setR, xown_setR, xlen_setR, xE_setW, xsz_setW, xsl_setW, xtag_setW, xown_setW, xlen_setW, xi_setR, xi_setW, xr_setI, xr_setW, xww_setI, xww_setR, xi_setI, xr_setR, xww_setW, xE_new, xsz_new, xsl_new, xtag_new, xown_new, xlen_new, xi_new, xr_new, xww_new, xtag_newS, xown_newS, xlen_newS, xi_newS, xr_newS, xww_newS, t1, t3, t5, hfs, hna, v1, v2, xsub]; done) | (simp (disch := (first | omega | (simp only [xE_setI, xsz_setI, xsl_setI, xtag_setI, xown_setI, xlen_setI, xE_setR, xsz_setR, xsl_setR, xtag_setR, xown_setR, xlen_setR, xE_setW, xsz_setW, xsl_setW, xtag_setW, xown_setW, xlen_setW, xi_setR, xi_setW, xr_setI, xr_setW, xww_setI, xww_setR, xi_setI, xr_setR, xww_setW, xE_new, xsz_new, xsl_new]; omega))) [xE_setI, xsz_setI, xsl_setI, xtag_setI, xown_setI, xlen_setI, xE_setR, xsz_setR, xsl_setR, xtag_setR, xown_setR, xlen_setR, xE_setW, xsz_setW, xsl_setW, xtag_setW, xown_setW, xlen_setW, xi_setR, xi_setW, xr_setI, xr_setW, xww_setI, xww_setR, xi_setI, xr_setR, xww_setW, xE_new, xsz_new, xsl_new, xtag_new, xown_new, xlen_new, xi_new, xr_new, xww_new, xtag_newS, xown_newS, xlen_newS, xi_newS, xr_newS, xww_newS, t1, t3, t5, hfs, hna, v1, v2] <;> rfl)) (by first | assumption | (simp (disch := (first | omega | (simp only [xE_setI, xsz_setI, xsl_setI, xtag_setI, xown_setI, xlen_setI, xE_setR, xsz_setR, xsl_setR, xtag_setR, xown_setR, xlen_setR, xE_setW, xsz_setW, xsl_setW, xtag_setW, xown_setW, xlen_setW, xi_setR, xi_setW, xr_setI, xr_setW, xww_setI, xww_setR, xi_setI, xr_setR, xww_setW, xE_new, xsz_new, xsl_new]; omega))) [xE_setI, xsz_setI, xsl_setI, xtag_setI, xown_setI, xlen_setI, xE_setR, xsz_setR, xsl_setR, xtag_setR, xown_setR, xlen_setR, xE_setW, xsz_setW, xsl_setW, xtag_setW, xown_setW, xlen_setW, xi_setR, xi_setW, xr_setI, xr_setW, xww_setI, xww_setR, xi_setI, xr_setR, xww_setW, xE_new, xsz_new, xsl_new, xtag_new, xown_new, xlen_new, xi_new, xr_new, xww_new, xtag_newS, xown_newS, xlen_newS, xi_newS, xr_newS, xww_newS, t1, t3, t5, hfs, hna, v1, v2]; done) | (simp (disch := (first | omega | (simp only [xE_setI, xsz_setI, xsl_setI, xtag_setI, xown_setI, xlen_setI, xE_setR, xsz_setR, xsl_setR, xtag_setR, xown_setR, xlen_setR, xE_setW, xsz_setW, xsl_setW, xtag_setW, xown_setW, xlen_setW, xi_setR, xi_setW, xr_setI, xr_setW, xww_setI, xww_setR, xi_setI, xr_setR, xww_setW, xE_new, xsz_new, xsl_new]; omega))) [xE_setI, xsz_setI, xsl_setI, xtag_setI, xown_setI, xlen_setI, xE_setR, xsz_setR, xsl_setR, xtag_setR, xown_setR, xlen_setR, xE_setW, xsz_setW, xsl_setW, xtag_setW, xown_setW, xlen_setW, xi_setR, xi_setW, xr_setI, xr_setW, xww_setI, xww_setR, xi_setI, xr_setR, xww_setW, xE_new, xsz_new, xsl_new, xtag_new, xown_new, xlen_new, xi_new, xr_new, xww_new, xtag_newS, xown_newS, xlen_newS, xi_newS, xr_newS, xww_newS, t1, t3, t5, hfs, hna, v1, v2]; assumption)) rfl ?_
      refine xw_aret (pc := 44) (.array (.object "java/lang/Object")) dJ2_grow_2_44 rfl ?_
      refine ⟨rfl, x_grown (c := ls.length + max (ls.length + 1 - ls.length) (ls.length / 2)) h0 hf hm (by omega) (by omega) hc37.1 hc37.2.1 hc37.2.2.1 (fun i hi => hc37.2.2.2.1 i (by omega)) hc37.2.2.2.2⟩

theorem SP_J2_grow {d : Nat} {g : xG} {o a arr : Nat} {ls : List Nat} (h : xAL g o a arr ls) (ho : o ≠ 0) (hel : ∀ i, i < ls.length → xObj g (ls.getD i 0)) (hf : ls.length = xlen g arr) (hm : ls.length < 100) : XM M_J2_grow (d + 4) [.ref a] g (xVal (.ref (xsz g)) (fun g' => xAL g' o a (xsz g) ls ∧ ls.length < xlen g' (xsz g) ∧ xFr (oEq o) 1000 g g')) := by
  have h0 := h
  obtain ⟨t1, t2, t3, t4, t5, t6, t7, t8, t9⟩ := h
  have hna : xown g a ≠ 0 := by rw [t2]; exact ho
  have hlt : arr < xsz g := xlt (by rw [t5]; decide)
  have ha : a < xsz g := xlt (by rw [t1]; decide)
  have hfs : xlen g arr = ls.length := hf.symm
  have hel2 : ∀ k, k ≤ ls.length → xEl g arr k := fun k hk i b hi hb => by
    have e := t9 i (by omega)
    rw [hb] at e
    have e2 : b = ls.getD i 0 := Option.some.inj e
    rw [e2]
    exact hel i (by omega)
  refine xm_of (by decide +kernel) (Nat.le_of_ble_eq_true rfl) ?_
  show XW _ _ 0 [(0, _)] [] _ _
  refine xw_aload_n (pc := 0) dJ2_grow_0 0 rfl ?_
  refine xw_aload_n (pc := 1) dJ2_grow_1 0 rfl ?_
  refine xw_getNat (k := ls.length) (pc := 2) fd_J2_48 dJ2_grow_2 (by first | assumption | (simp [xE_setI, xsz_setI, xsl_setI, xtag_setI, xown_setI, xlen_setI, xE_setR, xsz_setR, xsl_setR, xtag_setR, xown_setR, xlen_setR, xE_setW, xsz_setW, xsl_setW, xtag_setW, xown_setW, xlen_setW, xi_setR, xi_setW, xr_setI, xr_setW, xww_setI, xww_setR, xi_setI, xr_setR, xww_setW, xE_new, xsz_new, xsl_new, t1, t4, hfs, xsub]; done) | (simp [xE_setI, xsz_setI, xsl_setI, xtag_setI, xown_setI, xlen_setI, xE_setR, xsz_setR, xsl_setR, xtag_setR, xown_setR, xlen_setR, xE_setW, xsz_setW, xsl_setW, xtag_setW, xown_setW, xlen_setW, xi_setR, xi_setW, xr_setI, xr_setW, xww_setI, xww_setR, xi_setI, xr_setR, xww_setW, xE_new, xsz_new, xsl_new, t1, t4, hfs] <;> rfl)) (by simp [xE_setI, xsz_setI, xsl_setI, xtag_setI, xown_setI, xlen_setI, xE_setR, xsz_setR, xsl_setR, xtag_setR, xown_setR, xlen_setR, xE_setW, xsz_setW, xsl_setW, xtag_setW, xown_setW, xlen_setW, xi_setR, xi_setW, xr_setI, xr_setW, xww_setI, xww_setR, xi_setI, xr_setR, xww_setW, xE_new, xsz_new, xsl_new, t1, t4, hfs]) ?_
  refine xw_iconst (v := nI 1) (pc := 5) dJ2_grow_5 rfl ?_
  refine xn_iadd (pc := 6) dJ2_grow_6 ?_
  refine xw_callF (pc := 7) (xr_V (as := [_]) ok_J2_grow_2 rfl (by decide) q540 q542 qs3 (by first | rfl | (simp [xE_setI, xsz_setI, xsl_setI, xtag_setI, xown_setI, xlen_setI, xE_setR, xsz_setR, xsl_setR, xtag_setR, xown_setR, xlen_setR, xE_setW, xsz_setW, xsl_setW, xtag_setW, xown_setW, xlen_setW, xi_setR, xi_setW, xr_setI, xr_setW, xww_setI, xww_setR, xi_setI, xr_setR, xww_setW, xE_new, xsz_new, xsl_new, t1, t4, hfs, xcls, xnm, xcn]; done) | (simp [xE_setI, xsz_setI, xsl_setI, xtag_setI, xown_setI, xlen_setI, xE_setR, xsz_setR, xsl_setR, xtag_setR, xown_setR, xlen_setR, xE_setW, xsz_setW, xsl_setW, xtag_setW, xown_setW, xlen_setW, xi_setR, xi_setW, xr_setI, xr_setW, xww_setI, xww_setR, xi_setI, xr_setR, xww_setW, xE_new, xsz_new, xsl_new, t1, t4, hfs]; rfl)) (by first | rfl | (simp [xE_setI, xsz_setI, xsl_setI, xtag_setI, xown_setI, xlen_setI, xE_setR, xsz_setR, xsl_setR, xtag_setR, xown_setR, xlen_setR, xE_setW, xsz_setW, xsl_setW, xtag_setW, xown_setW, xlen_setW, xi_setR, xi_setW, xr_setI, xr_setW, xww_setI, xww_setR, xi_setI, xr_setR, xww_setW, xE_new, xsz_new, xsl_new, t1, t4, hfs, xcls, xnm, xcn]; done) | (simp [xE_setI, xsz_setI, xsl_setI, xtag_setI, xown_setI, xlen_setI, xE_setR, xsz_setR, xsl_setR, xtag_setR, xown_setR, xlen_setR, xE_setW, xsz_setW, xsl_setW, xtag_setW, xown_setW, xlen_setW, xi_setR, xi_setW, xr_setI, xr_setW, xww_setI, xww_setR, xi_setI, xr_setR, xww_setW, xE_new, xsz_new, xsl_new, t1, t4, hfs]; rfl)) dJ2_grow_7 rfl rfl (Nat.le_of_ble_eq_true rfl)) (SP_J2_grow_2 h0 ho hel hf hm) ?_
  intro g7 hc7 hm7
  refine xw_aret (pc := 10) (.array (.object "java/lang/Object")) dJ2_grow_10 rfl ?_
  exact ⟨rfl, hc7⟩

