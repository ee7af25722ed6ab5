/-! CLASS 13: rules, their copies -/
set_option maxRecDepth 100000
theorem xObj_T {g : xG} {b : Nat} (h1 : 10 ≤ xtag g b) (h2 : xtag g b ≤ 13) : xObj g b := by
  have h : xtag g b = 10 ∨ xtag g b = 11 ∨ xtag g b = 12 ∨ xtag g b = 13 := by omega
  unfold xObj
  rcases h with h | h | h | h <;> rw [h]
  · exact ⟨rfl, q2795⟩
  · exact ⟨rfl, q2796⟩
  · exact ⟨rfl, q2797⟩
  · exact ⟨rfl, q2798⟩
theorem xObj_R {g : xG} {b : Nat} (h : xtag g b = 6 ∨ xtag g b = 7) : xObj g b := by
  unfold xObj
  rcases h with h | h <;> rw [h]
  · exact ⟨rfl, q2820⟩
  · exact ⟨rfl, q2819⟩
theorem xObj_S {g : xG} {b : Nat} (h : xtag g b = 3) : xObj g b := by
  unfold xObj
  rw [h]
  exact ⟨rfl, q2805⟩
theorem xObj_W {g : xG} {b : Nat} (h : xtag g b = 14) : xObj g b := by
  unfold xObj
  rw [h]
  exact ⟨rfl, q2821⟩
theorem xObj_P {g : xG} {b : Nat} (h : xtag g b = 2) : xObj g b := by
  unfold xObj
  rw [h]
  exact ⟨rfl, q2800⟩
theorem take_S {ls : List Nat} {k : Nat} (h : k < ls.length) : ls.take k ++ [ls.getD k 0] = ls.take (k + 1) := by
  rw [List.take_add_one, List.getD_eq_getElem?_getD, List.getElem?_eq_getElem h]
  rfl
/-- a call of a rule's own method -/
theorem xsub_R {g : xG} {b : Nat} (h : xtag g b = 6 ∨ xtag g b = 7) : xsub 90 (xtag g b) = true := by rcases h with h | h <;> rw [h] <;> rfl
theorem lp_X7_copy {d : Nat} {b c tl arr tl2 ta2 o o2 : Nat} {ts : List Nat} {g5 : xG} {Q : Option Value ⊕ Nat → xG → Prop} (h1 : xtag g5 b = 6 ∨ xtag g5 b = 7) (hbo : xown g5 b ≠ o2) (hb6 : xr g5 b 6 = some tl) (hL : xAL g5 o tl arr ts) (hoo : o ≠ o2) (hT : xTs g5 ts) (h2 : xtag g5 c = 6 ∨ xtag g5 c = 7) (hco : xown g5 c ≠ o2) (hc6 : xr g5 c 6 = some tl2) (ho2 : o2 ≠ 0) (hl4 : ts.length ≤ 4) (hta : xtag g5 ta2 = 108) (hcap : 4 ≤ xlen g5 ta2) (hQ : ∀ g', xAL g' o2 tl2 ta2 ts → xFr (oEq o2) 0 g5 g' → Q (.inl (some (.ref c))) g') : ∀ (j k : Nat) (gk : xG), ts.length - k < j → k ≤ ts.length → xAL gk o2 tl2 ta2 (ts.take k) → xFr (oEq o2) 0 g5 gk → XW M_X7_copy (d + 3) 15 [(2, .int (nI k)), (1, .ref c), (0, .ref b)] [] gk Q := by
  intro j
  induction j with
  | zero => intro k gk h; omega
  | succ j ih =>
    intro k gk hkj hk hA F
    have hlb : b < xsz g5 := xlt (by omega)
    have hlc : c < xsz g5 := xlt (by omega)
    have hlt : ta2 < xsz g5 := xlt (by rw [hta]; decide)
    have u1 : xsub 90 (xtag gk b) = true := by rw [F.tag hlb]; exact xsub_R h1
    have u2 : xr gk b 6 = some tl := by rw [F.r' hlb hbo]; exact hb6
    have u3 : xsub 90 (xtag gk c) = true := by rw [F.tag hlc]; exact xsub_R h2
    have u4 : xr gk c 6 = some tl2 := by rw [F.r' hlc hco]; exact hc6
    have hLk := hL.fr F hoo
    have hTk : k < ts.length → 10 ≤ xtag gk (ts.getD k 0) ∧ xtag gk (ts.getD k 0) ≤ 13 := fun hk => by
      have h := hT k hk
      rw [F.tag (xlt (by omega))]
      exact h
    have tgl : xtag gk tl = 18 := hLk.1
    have tgl2 : xtag gk tl2 = 18 := hA.1
    have hlen2 : (ts.take k).length = k := by rw [List.length_take]; omega
    refine xw_iload_n (pc := 15) dX7_copy_15 0 rfl ?_
    refine xw_aload_n (pc := 16) dX7_copy_16 2 rfl ?_
    refine xw_getS (b := tl) (pc := 17) fd_X7_20 dX7_copy_17 (by first | assumption | (simp [xE_setI, xsz_setI, xsl_setI, xtag_setI, xown_setI, xlen_setI, xE_setR, xsz_setR, xsl_setR, xtag_setR, xown_setR, xlen_setR, xE_setW, xsz_setW, xsl_setW, xtag_setW, xown_setW, xlen_setW, xi_setR, xi_setW, xr_setI, xr_setW, xww_setI, xww_setR, xi_setI, xr_setR, xww_setW, xE_new, xsz_new, xsl_new, u1, u2, u3, u4, xsub]; done) | (simp [xE_setI, xsz_setI, xsl_setI, xtag_setI, xown_setI, xlen_setI, xE_setR, xsz_setR, xsl_setR, xtag_setR, xown_setR, xlen_setR, xE_setW, xsz_setW, xsl_setW, xtag_setW, xown_setW, xlen_setW, xi_setR, xi_setW, xr_setI, xr_setW, xww_setI, xww_setR, xi_setI, xr_setR, xww_setW, xE_new, xsz_new, xsl_new, u1, u2, u3, u4] <;> rfl)) (by simp [xE_setI, xsz_setI, xsl_setI, xtag_setI, xown_setI, xlen_setI, xE_setR, xsz_setR, xsl_setR, xtag_setR, xown_setR, xlen_setR, xE_setW, xsz_setW, xsl_setW, xtag_setW, xown_setW, xlen_setW, xi_setR, xi_setW, xr_setI, xr_setW, xww_setI, xww_setR, xi_setI, xr_setR, xww_setW, xE_new, xsz_new, xsl_new, u1, u2, u3, u4]) ?_
    refine xw_callV (pc := 20) (xr_V (as := []) ok_J2_size rfl (by decide) q797 q702 q703 (by rw [tgl]; rfl) (by rw [tgl]; rfl) dX7_copy_20 rfl rfl (Nat.le_of_ble_eq_true rfl)) (SP_J2_size hLk) ?_
    refine xw_icmp_ge (pc := 23) 51 dX7_copy_23 rfl (fun hb23 => ?_) (fun hb23 => ?_)
    · replace hb23 : ts.length ≤ k := (nI_leI (a := ts.length) (b := k) (by omega) (by omega)).mp hb23
      refine xw_aload_n (pc := 51) dX7_copy_51 1 rfl ?_
      refine xw_aret (pc := 52) (.object "PolicyNotation$Rule") dX7_copy_52 rfl ?_
      have ek : k = ts.length := by omega
      rw [ek, List.take_length] at hA
      exact hQ gk hA F
    · replace hb23 : ¬ (ts.length ≤ k) := mt (nI_leI (a := ts.length) (b := k) (by omega) (by omega)).mpr hb23
      refine xw_aload_n (pc := 26) dX7_copy_26 1 rfl ?_
      refine xw_getS (b := tl2) (pc := 27) fd_X7_20 dX7_copy_27 (by first | assumption | (simp [xE_setI, xsz_setI, xsl_setI, xtag_setI, xown_setI, xlen_setI, xE_setR, xsz_setR, xsl_setR, xtag_setR, xown_setR, xlen_setR, xE_setW, xsz_setW, xsl_setW, xtag_setW, xown_setW, xlen_setW, xi_setR, xi_setW, xr_setI, xr_setW, xww_setI, xww_setR, xi_setI, xr_setR, xww_setW, xE_new, xsz_new, xsl_new, u1, u2, u3, u4, xsub]; done) | (simp [xE_setI, xsz_setI, xsl_setI, xtag_setI, xown_setI, xlen_setI, xE_setR, xsz_setR, xsl_setR, xtag_setR, xown_setR, xlen_setR, xE_setW, xsz_setW, xsl_setW, xtag_setW, xown_setW, xlen_setW, xi_setR, xi_setW, xr_setI, xr_setW, xww_setI, xww_setR, xi_setI, xr_setR, xww_setW, xE_new, xsz_new, xsl_new, u1, u2, u3, u4] <;> rfl)) (by simp [xE_setI, xsz_setI, xsl_setI, xtag_setI, xown_setI, xlen_setI, xE_setR, xsz_setR, xsl_setR, xtag_setR, xown_setR, xlen_setR, xE_setW, xsz_setW, xsl_setW, xtag_setW, xown_setW, xlen_setW, xi_setR, xi_setW, xr_setI, xr_setW, xww_setI, xww_setR, xi_setI, xr_setR, xww_setW, xE_new, xsz_new, xsl_new, u1, u2, u3, u4]) ?_
      refine xw_aload_n (pc := 30) dX7_copy_30 2 rfl ?_
      refine xw_getS (b := tl) (pc := 31) fd_X7_20 dX7_copy_31 (by first | assumption | (simp [xE_setI, xsz_setI, xsl_setI, xtag_setI, xown_setI, xlen_setI, xE_setR, xsz_setR, xsl_setR, xtag_setR, xown_setR, xlen_setR, xE_setW, xsz_setW, xsl_setW, xtag_setW, xown_setW, xlen_setW, xi_setR, xi_setW, xr_setI, xr_setW, xww_setI, xww_setR, xi_setI, xr_setR, xww_setW, xE_new, xsz_new, xsl_new, u1, u2, u3, u4, xsub]; done) | (simp [xE_setI, xsz_setI, xsl_setI, xtag_setI, xown_setI, xlen_setI, xE_setR, xsz_setR, xsl_setR, xtag_setR, xown_setR, xlen_setR, xE_setW, xsz_setW, xsl_setW, xtag_setW, xown_setW, xlen_setW, xi_setR, xi_setW, xr_setI, xr_setW, xww_setI, xww_setR, xi_setI, xr_setR, xww_setW, xE_new, xsz_new, xsl_new, u1, u2, u3, u4] <;> rfl)) (by simp [xE_setI, xsz_setI, xsl_setI, xtag_setI, xown_setI, xlen_setI, xE_setR, xsz_setR, xsl_setR, xtag_setR, xown_setR, xlen_setR, xE_setW, xsz_setW, xsl_setW, xtag_setW, xown_setW, xlen_setW, xi_setR, xi_setW, xr_setI, xr_setW, xww_setI, xww_setR, xi_setI, xr_setR, xww_setW, xE_new, xsz_new, xsl_new, u1, u2, u3, u4]) ?_
      refine xw_iload_n (pc := 34) dX7_copy_34 0 rfl ?_
      refine xw_callV (pc := 35) (xr_V (as := [_]) ok_J2_get rfl (by decide) q798 q706 q707 (by rw [tgl]; rfl) (by rw [tgl]; rfl) dX7_copy_35 rfl rfl (Nat.le_of_ble_eq_true rfl)) (SP_J2_get hLk k (by omega)) ?_
      refine xw_chkT (pc := 38) dX7_copy_38 q799 (by exact (hTk (by omega)).1) (by exact (hTk (by omega)).2) ?_
      refine xw_callF (pc := 41) (xr_V (as := [_]) ok_J2_add rfl (by decide) q1027 q529 q530 (by rw [tgl2]; rfl) (by rw [tgl2]; rfl) dX7_copy_41 rfl rfl (Nat.le_of_ble_eq_true rfl)) (SP_J2_addF hA ho2 (xObj_T (hTk (by omega)).1 (hTk (by omega)).2) (by rw [hlen2, F.len hlt]; omega)) ?_
      intro g41 hc41 hm41
      refine xw_pop (pc := 44) dX7_copy_44 rfl ?_
      refine xw_iinc (v := nI (k + 1)) (l' := [(2, _), (1, _), (0, _)]) (pc := 45) dX7_copy_45 0 rfl (nI_add _ 1) (by decide) rfl ?_
      refine xw_goto (pc := 48) 15 dX7_copy_48 rfl ?_
      exact ih (k + 1) g41 (by omega) (by omega) (by rw [← take_S (by omega)]; exact hc41.1) ((F.tr hc41.2).sub (fun _ h => h) (by omega))
theorem SP_X7_copy7 {d : Nat} {g : xG} {s : Nat → Int32} {r b o tl arr o1 o2 : Nat} {ts : List Nat} (hR : xRu g s r b o tl arr ts) (hq : ∀ j, j < ts.length → xown g (ts.getD j 0) = 2) (ho1 : o1 ≠ 0) (ho2 : 2 < o2) (h12 : o1 ≠ o2) (hbo : xown g b ≠ o2) (hoo : o ≠ o2) (hl4 : ts.length ≤ 4) (hb : xtag g b = 7) : XM M_X7_copy (d + 7) [.ref b] g (xVal (.ref (xsz g)) (fun g' => xRu g' s r (xsz g) o2 (xsz g + 1) (xsz g + 2) ts ∧ xown g' (xsz g) = o1 ∧ 4 ≤ xlen g' (xsz g + 2) ∧ xFr (oEq o2) 40 g g')) := by
  have hR0 := hR
  obtain ⟨r1, r2, r3, r4, r5, r6, r7, r8, r9, r10, r11, r12, r13⟩ := hR
  have hlb : b < xsz g := xlt (by rw [hb]; decide)
  have hnb : b ≠ xsz g := Nat.ne_of_lt hlb
  have x1 : xtag (xNew g (xBlank 7 o1 8) 8) (xsz g) = 7 := by rw [xtag_newS rfl]; rfl
  have x2 : xown (xNew g (xBlank 7 o1 8) 8) (xsz g) = o1 := by rw [xown_newS rfl]; rfl
  have x3 : xsz g < xsz (xNew g (xBlank 7 o1 8) 8) := Nat.lt_succ_self _
  have hz := xRI_a (g := (xNew g (xBlank 7 o1 8) 8)) (a := xsz g) (o2 := o2) (k := xi g b 0) (sc := xi g b 1) (rk := xi g b 2) (f := xi g b 3) (l := xi g b 4) (by rw [x1]; decide)
  have hal := xRI_al (g := (xNew g (xBlank 7 o1 8) 8)) (a := xsz g) (o2 := o2) (k := xi g b 0) (sc := xi g b 1) (rk := xi g b 2) (f := xi g b 3) (l := xi g b 4) x3
  obtain ⟨z1, z2, z3, z4, z5, z6, z7, z8, z9⟩ := hz
  have y1 : xtag (xsetR (xRI (xNew g (xBlank 7 o1 8) 8) (xsz g) o2 (xi g b 0) (xi g b 1) (xi g b 2) (xi g b 3) (xi g b 4)) (xsz g) 7 (xr g b 7)) (xsz g) = 7 := by simp only [xtag_setI, xtag_setR]; rw [z1]; exact x1
  have y2 : xown (xsetR (xRI (xNew g (xBlank 7 o1 8) 8) (xsz g) o2 (xi g b 0) (xi g b 1) (xi g b 2) (xi g b 3) (xi g b 4)) (xsz g) 7 (xr g b 7)) (xsz g) = o1 := by simp only [xown_setI, xown_setR]; rw [z2]; exact x2
  have y2n : xown (xsetR (xRI (xNew g (xBlank 7 o1 8) 8) (xsz g) o2 (xi g b 0) (xi g b 1) (xi g b 2) (xi g b 3) (xi g b 4)) (xsz g) 7 (xr g b 7)) (xsz g) ≠ 0 := by rw [y2]; exact ho1
  have F0 : xFr (oEq o2) 40 g (xsetR (xRI (xNew g (xBlank 7 o1 8) 8) (xsz g) o2 (xi g b 0) (xi g b 1) (xi g b 2) (xi g b 3) (xi g b 4)) (xsz g) 7 (xr g b 7)) := by
    have F1 : xFr (oEq o2) (0 + (8 + 1)) g (xNew g (xBlank 7 o1 8) 8) := xFr.rf.nw
    have F2 := xRI.fr (a := xsz g) (o2 := o2) (k := xi g b 0) (sc := xi g b 1) (rk := xi g b 2) (f := xi g b 3) (l := xi g b 4) F1 x3 (Or.inl (Nat.le_refl _))
    exact (F2.sr (Or.inl (Nat.le_refl _))).sub (fun _ h => h) (by omega)
  have FH : xFr (oEq o2) 40 g (xsetI (xsetR (xRI (xNew g (xBlank 7 o1 8) 8) (xsz g) o2 (xi g b 0) (xi g b 1) (xi g b 2) (xi g b 3) (xi g b 4)) (xsz g) 7 (xr g b 7)) (xsz g) 5 (xi g b 5)) := F0.si (Or.inl (Nat.le_refl _))
  have y3 : xsub 90 (xtag (xsetR (xRI (xNew g (xBlank 7 o1 8) 8) (xsz g) o2 (xi g b 0) (xi g b 1) (xi g b 2) (xi g b 3) (xi g b 4)) (xsz g) 7 (xr g b 7)) (xsz g)) = true := by rw [y1]; rfl
  have y4 : xsub 90 (xtag (xsetR (xRI (xNew g (xBlank 7 o1 8) 8) (xsz g) o2 (xi g b 0) (xi g b 1) (xi g b 2) (xi g b 3) (xi g b 4)) (xsz g) 7 (xr g b 7)) b) = true := by rw [F0.tag hlb, hb]; rfl
  have y5 : xi (xsetR (xRI (xNew g (xBlank 7 o1 8) 8) (xsz g) o2 (xi g b 0) (xi g b 1) (xi g b 2) (xi g b 3) (xi g b 4)) (xsz g) 7 (xr g b 7)) b 5 = xi g b 5 := F0.i' hlb hbo
  refine xm_of (by decide +kernel) (Nat.le_of_ble_eq_true rfl) ?_
  show XW _ _ 0 [(0, _)] [] _ _
  refine xw_aload_n (pc := 0) dX7_copy_0 0 rfl ?_
  refine xw_callV (pc := 1) (xr_U (as := []) ok_X9_anew rfl (by decide) q919 q921 (Or.inl q920) ⟨by decide, by decide, by decide +kernel⟩ q1008 (by rw [hb]; rfl) (by rw [hb]; exact q1007) dX7_copy_1 rfl rfl (Nat.le_of_ble_eq_true rfl)) (SP_X9_anew (o1 := o1) (o2 := o2) hb ho1 (by omega)) ?_
  refine xw_astore_n (l' := [(1, _), (0, _)]) (pc := 4) dX7_copy_4 rfl (by decide) rfl ?_
  refine xw_aload_n (pc := 5) dX7_copy_5 0 rfl ?_
  refine xw_aload_n (pc := 6) dX7_copy_6 1 rfl ?_
  refine xw_getI (pc := 7) fd_X7_9 dX7_copy_7 (by first | assumption | (simp [xE_setI, xsz_setI, xsl_setI, xtag_setI, xown_setI, xlen_setI, xE_setR, xsz_setR, xsl_setR, xtag_setR, xown_setR, xlen_setR, xE_setW, xsz_setW, xsl_setW, xtag_setW, xown_setW, xlen_setW, xi_setR, xi_setW, xr_setI, xr_setW, xww_setI, xww_setR, xi_setI, xr_setR, xww_setW, xE_new, xsz_new, xsl_new, y3, y4, y2n, xsub]; done) | (simp [xE_setI, xsz_setI, xsl_setI, xtag_setI, xown_setI, xlen_setI, xE_setR, xsz_setR, xsl_setR, xtag_setR, xown_setR, xlen_setR, xE_setW, xsz_setW, xsl_setW, xtag_setW, xown_setW, xlen_setW, xi_setR, xi_setW, xr_setI, xr_setW, xww_setI, xww_setR, xi_setI, xr_setR, xww_setW, xE_new, xsz_new, xsl_new, y3, y4, y2n] <;> rfl)) ?_
  rw [y5]
  refine xw_putI (pc := 10) fd_X7_9 (xfin_of (by decide) (by decide +kernel)) dX7_copy_10 (by first | assumption | (simp [xE_setI, xsz_setI, xsl_setI, xtag_setI, xown_setI, xlen_setI, xE_setR, xsz_setR, xsl_setR, xtag_setR, xown_setR, xlen_setR, xE_setW, xsz_setW, xsl_setW, xtag_setW, xown_setW, xlen_setW, xi_setR, xi_setW, xr_setI, xr_setW, xww_setI, xww_setR, xi_setI, xr_setR, xww_setW, xE_new, xsz_new, xsl_new, y3, y4, y2n, xsub]; done) | (simp [xE_setI, xsz_setI, xsl_setI, xtag_setI, xown_setI, xlen_setI, xE_setR, xsz_setR, xsl_setR, xtag_setR, xown_setR, xlen_setR, xE_setW, xsz_setW, xsl_setW, xtag_setW, xown_setW, xlen_setW, xi_setR, xi_setW, xr_setI, xr_setW, xww_setI, xww_setR, xi_setI, xr_setR, xww_setW, xE_new, xsz_new, xsl_new, y3, y4, y2n] <;> rfl)) (by first | assumption | (simp [xE_setI, xsz_setI, xsl_setI, xtag_setI, xown_setI, xlen_setI, xE_setR, xsz_setR, xsl_setR, xtag_setR, xown_setR, xlen_setR, xE_setW, xsz_setW, xsl_setW, xtag_setW, xown_setW, xlen_setW, xi_setR, xi_setW, xr_setI, xr_setW, xww_setI, xww_setR, xi_setI, xr_setR, xww_setW, xE_new, xsz_new, xsl_new, y3, y4, y2n]; done) | (simp [xE_setI, xsz_setI, xsl_setI, xtag_setI, xown_setI, xlen_setI, xE_setR, xsz_setR, xsl_setR, xtag_setR, xown_setR, xlen_setR, xE_setW, xsz_setW, xsl_setW, xtag_setW, xown_setW, xlen_setW, xi_setR, xi_setW, xr_setI, xr_setW, xww_setI, xww_setR, xi_setI, xr_setR, xww_setW, xE_new, xsz_new, xsl_new, y3, y4, y2n]; assumption)) ?_
  refine xw_iconst (v := nI 0) (pc := 13) dX7_copy_13 rfl ?_
  refine xw_istore_n (l' := [(2, _), (1, _), (0, _)]) (pc := 14) dX7_copy_14 rfl (by decide) rfl ?_
  have w5 : xtag (xsetI (xsetR (xRI (xNew g (xBlank 7 o1 8) 8) (xsz g) o2 (xi g b 0) (xi g b 1) (xi g b 2) (xi g b 3) (xi g b 4)) (xsz g) 7 (xr g b 7)) (xsz g) 5 (xi g b 5)) (xsz g) = 7 := by rw [xtag_setI]; exact y1
  have w6 : xown (xsetI (xsetR (xRI (xNew g (xBlank 7 o1 8) 8) (xsz g) o2 (xi g b 0) (xi g b 1) (xi g b 2) (xi g b 3) (xi g b 4)) (xsz g) 7 (xr g b 7)) (xsz g) 5 (xi g b 5)) (xsz g) = o1 := by rw [xown_setI]; exact y2
  have w9 : xr (xsetI (xsetR (xRI (xNew g (xBlank 7 o1 8) 8) (xsz g) o2 (xi g b 0) (xi g b 1) (xi g b 2) (xi g b 3) (xi g b 4)) (xsz g) 7 (xr g b 7)) (xsz g) 5 (xi g b 5)) (xsz g) 6 = some (xsz g + 1) := by
    rw [xr_setI]
    rw [xr_setRK (by decide)]
    exact z9
  have wal : xAL (xsetI (xsetR (xRI (xNew g (xBlank 7 o1 8) 8) (xsz g) o2 (xi g b 0) (xi g b 1) (xi g b 2) (xi g b 3) (xi g b 4)) (xsz g) 7 (xr g b 7)) (xsz g) 5 (xi g b 5)) o2 (xsz g + 1) (xsz g + 2) [] ∧ xlen (xsetI (xsetR (xRI (xNew g (xBlank 7 o1 8) 8) (xsz g) o2 (xi g b 0) (xi g b 1) (xi g b 2) (xi g b 3) (xi g b 4)) (xsz g) 7 (xr g b 7)) (xsz g) 5 (xi g b 5)) (xsz g + 2) = 4 := by
    obtain ⟨⟨t1, t2, t3, t4, t5, t6, t7, t8, t9⟩, t10⟩ := hal
    have e1 : xsz g + 1 ≠ xsz g := Nat.succ_ne_self _
    refine ⟨⟨?_, ?_, ?_, ?_, ?_, ?_, ?_, ?_, fun i hi => absurd hi (Nat.not_lt_zero i)⟩, ?_⟩
    · simp only [xtag_setI, xtag_setR]; exact t1
    · simp only [xown_setI, xown_setR]; exact t2
    · rw [xr_setI, xr_setRN e1]; exact t3
    · rw [xi_setIN e1, xi_setR]; exact t4
    · simp only [xtag_setI, xtag_setR]; exact t5
    · simp only [xown_setI, xown_setR, xlen_setI, xlen_setR]; exact t6
    · exact Nat.zero_le _
    · simp only [xlen_setI, xlen_setR]; exact t8
    · simp only [xlen_setI, xlen_setR]; exact t10
  have hT1 : xTs (xsetI (xsetR (xRI (xNew g (xBlank 7 o1 8) 8) (xsz g) o2 (xi g b 0) (xi g b 1) (xi g b 2) (xi g b 3) (xi g b 4)) (xsz g) 7 (xr g b 7)) (xsz g) 5 (xi g b 5)) ts := fun j hj => by
    have h := (r10.2 j hj)
    rw [FH.tag (xlt (by omega))]
    exact ⟨h.1, h.2.1⟩
  have w0 : xi (xsetI (xsetR (xRI (xNew g (xBlank 7 o1 8) 8) (xsz g) o2 (xi g b 0) (xi g b 1) (xi g b 2) (xi g b 3) (xi g b 4)) (xsz g) 7 (xr g b 7)) (xsz g) 5 (xi g b 5)) (xsz g) 5 = xi g b 5 := xi_setIS (by rw [y1]; decide)
  have wi : ∀ j, j ≠ 5 → xi (xsetI (xsetR (xRI (xNew g (xBlank 7 o1 8) 8) (xsz g) o2 (xi g b 0) (xi g b 1) (xi g b 2) (xi g b 3) (xi g b 4)) (xsz g) 7 (xr g b 7)) (xsz g) 5 (xi g b 5)) (xsz g) j = xi (xsetR (xRI (xNew g (xBlank 7 o1 8) 8) (xsz g) o2 (xi g b 0) (xi g b 1) (xi g b 2) (xi g b 3) (xi g b 4)) (xsz g) 7 (xr g b 7)) (xsz g) j := fun j hj => xi_setIK hj
  refine lp_X7_copy (d := d + 4) (o := o) (arr := arr) (tl := tl) (o2 := o2) (tl2 := xsz g + 1) (ta2 := xsz g + 2) (by rw [FH.tag hlb, hb]; decide) (by rw [FH.own hlb]; exact hbo) (by rw [FH.r' hlb hbo]; exact r8) (r9.fr FH hoo) hoo hT1 (by rw [w5]; decide) (by rw [w6]; exact h12) w9 (by omega) hl4 wal.1.2.2.2.2.1 (by rw [wal.2]; decide) (fun g' hA F => ?_) (ts.length + 1) 0 _ (by omega) (by omega) wal.1 xFr.rf
  have hc : xsz g < xsz (xsetI (xsetR (xRI (xNew g (xBlank 7 o1 8) 8) (xsz g) o2 (xi g b 0) (xi g b 1) (xi g b 2) (xi g b 3) (xi g b 4)) (xsz g) 7 (xr g b 7)) (xsz g) 5 (xi g b 5)) := xlt (by rw [w5]; decide)
  have e : xc g' (xsz g) = xc (xsetI (xsetR (xRI (xNew g (xBlank 7 o1 8) 8) (xsz g) o2 (xi g b 0) (xi g b 1) (xi g b 2) (xi g b 3) (xi g b 4)) (xsz g) 7 (xr g b 7)) (xsz g) 5 (xi g b 5)) (xsz g) := F.c hc (by rw [w6]; exact h12)
  have FF : xFr (oEq o2) 40 g g' := (FH.tr F).sub (fun _ h => h) (by omega)
  have hta : xsz g + 2 < xsz (xsetI (xsetR (xRI (xNew g (xBlank 7 o1 8) 8) (xsz g) o2 (xi g b 0) (xi g b 1) (xi g b 2) (xi g b 3) (xi g b 4)) (xsz g) 7 (xr g b 7)) (xsz g) 5 (xi g b 5)) := xlt (by rw [wal.1.2.2.2.2.1]; decide)
  refine ⟨rfl, ⟨?_, ?_, ?_, ?_, ?_, ?_, ?_, ?_, hA, r10.fr hq FF (by unfold oEq; omega), ?_, ?_, ?_⟩, ?_, ?_, FF⟩
  · rw [xtag_of e, w5]; decide
  · rw [xi_of e, wi 0 (by decide)]; rw [xi_setR]; exact z3.trans r2
  · rw [xi_of e, wi 1 (by decide)]; rw [xi_setR]; exact z4.trans r3
  · rw [xi_of e, wi 2 (by decide)]; rw [xi_setR]; exact z5.trans r4
  · rw [xi_of e, wi 3 (by decide)]; rw [xi_setR]; exact z6.trans r5
  · rw [xi_of e, wi 4 (by decide)]; rw [xi_setR]; exact z7.trans r6
  · rw [xi_of e, w0]; exact r7
  · rw [xr_of e]; exact w9
  · unfold rOf at r11 ⊢
    rw [xtag_of e, w5]
    rw [hb] at r11
    exact r11
  · unfold rDep at r12 ⊢
    rw [xtag_of e, w5]
    rw [hb] at r12
    exact r12
  · unfold rEff at r13 ⊢
    rw [xtag_of e, w5, effO_fr FF]
    rw [hb] at r13
    rw [xr_of e]
    show xr (xsetI (xsetR (xRI (xNew g (xBlank 7 o1 8) 8) (xsz g) o2 (xi g b 0) (xi g b 1) (xi g b 2) (xi g b 3) (xi g b 4)) (xsz g) 7 (xr g b 7)) (xsz g) 5 (xi g b 5)) (xsz g) 7 = _
    rw [xr_setI, xr_setRS (by rw [z1, x1]; decide)]
    exact r13
  · rw [xown_of e]; exact w6
  · rw [F.len hta, wal.2]; exact Nat.le_refl _

theorem SP_X7_copy6 {d : Nat} {g : xG} {s : Nat → Int32} {r b o tl arr o1 o2 : Nat} {ts : List Nat} (hR : xRu g s r b o tl arr ts) (hq : ∀ j, j < ts.length → xown g (ts.getD j 0) = 2) (ho1 : o1 ≠ 0) (ho2 : 2 < o2) (h12 : o1 ≠ o2) (hbo : xown g b ≠ o2) (hoo : o ≠ o2) (hl4 : ts.length ≤ 4) (hb : xtag g b = 6) : XM M_X7_copy (d + 7) [.ref b] g (xVal (.ref (xsz g)) (fun g' => xRu g' s r (xsz g) o2 (xsz g + 1) (xsz g + 2) ts ∧ xown g' (xsz g) = o1 ∧ 4 ≤ xlen g' (xsz g + 2) ∧ xFr (oEq o2) 40 g g')) := by
  have hR0 := hR
  obtain ⟨r1, r2, r3, r4, r5, r6, r7, r8, r9, r10, r11, r12, r13⟩ := hR
  have hlb : b < xsz g := xlt (by rw [hb]; decide)
  have hnb : b ≠ xsz g := Nat.ne_of_lt hlb
  have x1 : xtag (xNew g (xBlank 6 o1 9) 9) (xsz g) = 6 := by rw [xtag_newS rfl]; rfl
  have x2 : xown (xNew g (xBlank 6 o1 9) 9) (xsz g) = o1 := by rw [xown_newS rfl]; rfl
  have x3 : xsz g < xsz (xNew g (xBlank 6 o1 9) 9) := Nat.lt_succ_self _
  have hz := xRI_a (g := (xNew g (xBlank 6 o1 9) 9)) (a := xsz g) (o2 := o2) (k := xi g b 0) (sc := xi g b 1) (rk := xi g b 2) (f := xi g b 3) (l := xi g b 4) (by rw [x1]; decide)
  have hal := xRI_al (g := (xNew g (xBlank 6 o1 9) 9)) (a := xsz g) (o2 := o2) (k := xi g b 0) (sc := xi g b 1) (rk := xi g b 2) (f := xi g b 3) (l := xi g b 4) x3
  obtain ⟨z1, z2, z3, z4, z5, z6, z7, z8, z9⟩ := hz
  have y1 : xtag (xsetI (xsetI (xRI (xNew g (xBlank 6 o1 9) 9) (xsz g) o2 (xi g b 0) (xi g b 1) (xi g b 2) (xi g b 3) (xi g b 4)) (xsz g) 7 (xi g b 7)) (xsz g) 8 (xi g b 8)) (xsz g) = 6 := by simp only [xtag_setI, xtag_setR]; rw [z1]; exact x1
  have y2 : xown (xsetI (xsetI (xRI (xNew g (xBlank 6 o1 9) 9) (xsz g) o2 (xi g b 0) (xi g b 1) (xi g b 2) (xi g b 3) (xi g b 4)) (xsz g) 7 (xi g b 7)) (xsz g) 8 (xi g b 8)) (xsz g) = o1 := by simp only [xown_setI, xown_setR]; rw [z2]; exact x2
  have y2n : xown (xsetI (xsetI (xRI (xNew g (xBlank 6 o1 9) 9) (xsz g) o2 (xi g b 0) (xi g b 1) (xi g b 2) (xi g b 3) (xi g b 4)) (xsz g) 7 (xi g b 7)) (xsz g) 8 (xi g b 8)) (xsz g) ≠ 0 := by rw [y2]; exact ho1
  have F0 : xFr (oEq o2) 40 g (xsetI (xsetI (xRI (xNew g (xBlank 6 o1 9) 9) (xsz g) o2 (xi g b 0) (xi g b 1) (xi g b 2) (xi g b 3) (xi g b 4)) (xsz g) 7 (xi g b 7)) (xsz g) 8 (xi g b 8)) := by
    have F1 : xFr (oEq o2) (0 + (9 + 1)) g (xNew g (xBlank 6 o1 9) 9) := xFr.rf.nw
    have F2 := xRI.fr (a := xsz g) (o2 := o2) (k := xi g b 0) (sc := xi g b 1) (rk := xi g b 2) (f := xi g b 3) (l := xi g b 4) F1 x3 (Or.inl (Nat.le_refl _))
    exact ((F2.si (Or.inl (Nat.le_refl _))).si (Or.inl (Nat.le_refl _))).sub (fun _ h => h) (by omega)
  have FH : xFr (oEq o2) 40 g (xsetI (xsetI (xsetI (xRI (xNew g (xBlank 6 o1 9) 9) (xsz g) o2 (xi g b 0) (xi g b 1) (xi g b 2) (xi g b 3) (xi g b 4)) (xsz g) 7 (xi g b 7)) (xsz g) 8 (xi g b 8)) (xsz g) 5 (xi g b 5)) := F0.si (Or.inl (Nat.le_refl _))
  have y3 : xsub 90 (xtag (xsetI (xsetI (xRI (xNew g (xBlank 6 o1 9) 9) (xsz g) o2 (xi g b 0) (xi g b 1) (xi g b 2) (xi g b 3) (xi g b 4)) (xsz g) 7 (xi g b 7)) (xsz g) 8 (xi g b 8)) (xsz g)) = true := by rw [y1]; rfl
  have y4 : xsub 90 (xtag (xsetI (xsetI (xRI (xNew g (xBlank 6 o1 9) 9) (xsz g) o2 (xi g b 0) (xi g b 1) (xi g b 2) (xi g b 3) (xi g b 4)) (xsz g) 7 (xi g b 7)) (xsz g) 8 (xi g b 8)) b) = true := by rw [F0.tag hlb, hb]; rfl
  have y5 : xi (xsetI (xsetI (xRI (xNew g (xBlank 6 o1 9) 9) (xsz g) o2 (xi g b 0) (xi g b 1) (xi g b 2) (xi g b 3) (xi g b 4)) (xsz g) 7 (xi g b 7)) (xsz g) 8 (xi g b 8)) b 5 = xi g b 5 := F0.i' hlb hbo
  refine xm_of (by decide +kernel) (Nat.le_of_ble_eq_true rfl) ?_
  show XW _ _ 0 [(0, _)] [] _ _
  refine xw_aload_n (pc := 0) dX7_copy_0 0 rfl ?_
  refine xw_callV (pc := 1) (xr_U (as := []) ok_X8_anew rfl (by decide) q919 q921 (Or.inl q920) ⟨by decide, by decide, by decide +kernel⟩ q923 (by rw [hb]; rfl) (by rw [hb]; exact q922) dX7_copy_1 rfl rfl (Nat.le_of_ble_eq_true rfl)) (SP_X8_anew (o1 := o1) (o2 := o2) hb ho1 (by omega)) ?_
  refine xw_astore_n (l' := [(1, _), (0, _)]) (pc := 4) dX7_copy_4 rfl (by decide) rfl ?_
  refine xw_aload_n (pc := 5) dX7_copy_5 0 rfl ?_
  refine xw_aload_n (pc := 6) dX7_copy_6 1 rfl ?_
  refine xw_getI (pc := 7) fd_X7_9 dX7_copy_7 (by first | assumption | (simp [xE_setI, xsz_setI, xsl_setI, xtag_setI, xown_setI, xlen_setI, xE_setR, xsz_setR, xsl_setR, xtag_setR, xown_setR, xlen_setR, xE_setW, xsz_setW, xsl_setW, xtag_setW, xown_setW, xlen_setW, xi_setR, xi_setW, xr_setI, xr_setW, xww_setI, xww_setR, xi_setI, xr_setR, xww_setW, xE_new, xsz_new, xsl_new, y3, y4, y2n, xsub]; done) | (simp [xE_setI, xsz_setI, xsl_setI, xtag_setI, xown_setI, xlen_setI, xE_setR, xsz_setR, xsl_setR, xtag_setR, xown_setR, xlen_setR, xE_setW, xsz_setW, xsl_setW, xtag_setW, xown_setW, xlen_setW, xi_setR, xi_setW, xr_setI, xr_setW, xww_setI, xww_setR, xi_setI, xr_setR, xww_setW, xE_new, xsz_new, xsl_new, y3, y4, y2n] <;> rfl)) ?_
  rw [y5]
  refine xw_putI (pc := 10) fd_X7_9 (xfin_of (by decide) (by decide +kernel)) dX7_copy_10 (by first | assumption | (simp [xE_setI, xsz_setI, xsl_setI, xtag_setI, xown_setI, xlen_setI, xE_setR, xsz_setR, xsl_setR, xtag_setR, xown_setR, xlen_setR, xE_setW, xsz_setW, xsl_setW, xtag_setW, xown_setW, xlen_setW, xi_setR, xi_setW, xr_setI, xr_setW, xww_setI, xww_setR, xi_setI, xr_setR, xww_setW, xE_new, xsz_new, xsl_new, y3, y4, y2n, xsub]; done) | (simp [xE_setI, xsz_setI, xsl_setI, xtag_setI, xown_setI, xlen_setI, xE_setR, xsz_setR, xsl_setR, xtag_setR, xown_setR, xlen_setR, xE_setW, xsz_setW, xsl_setW, xtag_setW, xown_setW, xlen_setW, xi_setR, xi_setW, xr_setI, xr_setW, xww_setI, xww_setR, xi_setI, xr_setR, xww_setW, xE_new, xsz_new, xsl_new, y3, y4, y2n] <;> rfl)) (by first | assumption | (simp [xE_setI, xsz_setI, xsl_setI, xtag_setI, xown_setI, xlen_setI, xE_setR, xsz_setR, xsl_setR, xtag_setR, xown_setR, xlen_setR, xE_setW, xsz_setW, xsl_setW, xtag_setW, xown_setW, xlen_setW, xi_setR, xi_setW, xr_setI, xr_setW, xww_setI, xww_setR, xi_setI, xr_setR, xww_setW, xE_new, xsz_new, xsl_new, y3, y4, y2n]; done) | (simp [xE_setI, xsz_setI, xsl_setI, xtag_setI, xown_setI, xlen_setI, xE_setR, xsz_setR, xsl_setR, xtag_setR, xown_setR, xlen_setR, xE_setW, xsz_setW, xsl_setW, xtag_setW, xown_setW, xlen_setW, xi_setR, xi_setW, xr_setI, xr_setW, xww_setI, xww_setR, xi_setI, xr_setR, xww_setW, xE_new, xsz_new, xsl_new, y3, y4, y2n]; assumption)) ?_
  refine xw_iconst (v := nI 0) (pc := 13) dX7_copy_13 rfl ?_
  refine xw_istore_n (l' := [(2, _), (1, _), (0, _)]) (pc := 14) dX7_copy_14 rfl (by decide) rfl ?_
  have w5 : xtag (xsetI (xsetI (xsetI (xRI (xNew g (xBlank 6 o1 9) 9) (xsz g) o2 (xi g b 0) (xi g b 1) (xi g b 2) (xi g b 3) (xi g b 4)) (xsz g) 7 (xi g b 7)) (xsz g) 8 (xi g b 8)) (xsz g) 5 (xi g b 5)) (xsz g) = 6 := by rw [xtag_setI]; exact y1
  have w6 : xown (xsetI (xsetI (xsetI (xRI (xNew g (xBlank 6 o1 9) 9) (xsz g) o2 (xi g b 0) (xi g b 1) (xi g b 2) (xi g b 3) (xi g b 4)) (xsz g) 7 (xi g b 7)) (xsz g) 8 (xi g b 8)) (xsz g) 5 (xi g b 5)) (xsz g) = o1 := by rw [xown_setI]; exact y2
  have w9 : xr (xsetI (xsetI (xsetI (xRI (xNew g (xBlank 6 o1 9) 9) (xsz g) o2 (xi g b 0) (xi g b 1) (xi g b 2) (xi g b 3) (xi g b 4)) (xsz g) 7 (xi g b 7)) (xsz g) 8 (xi g b 8)) (xsz g) 5 (xi g b 5)) (xsz g) 6 = some (xsz g + 1) := by
    rw [xr_setI]
    rw [xr_setI, xr_setI]
    exact z9
  have wal : xAL (xsetI (xsetI (xsetI (xRI (xNew g (xBlank 6 o1 9) 9) (xsz g) o2 (xi g b 0) (xi g b 1) (xi g b 2) (xi g b 3) (xi g b 4)) (xsz g) 7 (xi g b 7)) (xsz g) 8 (xi g b 8)) (xsz g) 5 (xi g b 5)) o2 (xsz g + 1) (xsz g + 2) [] ∧ xlen (xsetI (xsetI (xsetI (xRI (xNew g (xBlank 6 o1 9) 9) (xsz g) o2 (xi g b 0) (xi g b 1) (xi g b 2) (xi g b 3) (xi g b 4)) (xsz g) 7 (xi g b 7)) (xsz g) 8 (xi g b 8)) (xsz g) 5 (xi g b 5)) (xsz g + 2) = 4 := by
    obtain ⟨⟨t1, t2, t3, t4, t5, t6, t7, t8, t9⟩, t10⟩ := hal
    have e1 : xsz g + 1 ≠ xsz g := Nat.succ_ne_self _
    refine ⟨⟨?_, ?_, ?_, ?_, ?_, ?_, ?_, ?_, fun i hi => absurd hi (Nat.not_lt_zero i)⟩, ?_⟩
    · simp only [xtag_setI, xtag_setR]; exact t1
    · simp only [xown_setI, xown_setR]; exact t2
    · rw [xr_setI, xr_setI, xr_setI]; exact t3
    · rw [xi_setIN e1, xi_setIN e1, xi_setIN e1]; exact t4
    · simp only [xtag_setI, xtag_setR]; exact t5
    · simp only [xown_setI, xown_setR, xlen_setI, xlen_setR]; exact t6
    · exact Nat.zero_le _
    · simp only [xlen_setI, xlen_setR]; exact t8
    · simp only [xlen_setI, xlen_setR]; exact t10
  have hT1 : xTs (xsetI (xsetI (xsetI (xRI (xNew g (xBlank 6 o1 9) 9) (xsz g) o2 (xi g b 0) (xi g b 1) (xi g b 2) (xi g b 3) (xi g b 4)) (xsz g) 7 (xi g b 7)) (xsz g) 8 (xi g b 8)) (xsz g) 5 (xi g b 5)) ts := fun j hj => by
    have h := (r10.2 j hj)
    rw [FH.tag (xlt (by omega))]
    exact ⟨h.1, h.2.1⟩
  have w0 : xi (xsetI (xsetI (xsetI (xRI (xNew g (xBlank 6 o1 9) 9) (xsz g) o2 (xi g b 0) (xi g b 1) (xi g b 2) (xi g b 3) (xi g b 4)) (xsz g) 7 (xi g b 7)) (xsz g) 8 (xi g b 8)) (xsz g) 5 (xi g b 5)) (xsz g) 5 = xi g b 5 := xi_setIS (by rw [y1]; decide)
  have wi : ∀ j, j ≠ 5 → xi (xsetI (xsetI (xsetI (xRI (xNew g (xBlank 6 o1 9) 9) (xsz g) o2 (xi g b 0) (xi g b 1) (xi g b 2) (xi g b 3) (xi g b 4)) (xsz g) 7 (xi g b 7)) (xsz g) 8 (xi g b 8)) (xsz g) 5 (xi g b 5)) (xsz g) j = xi (xsetI (xsetI (xRI (xNew g (xBlank 6 o1 9) 9) (xsz g) o2 (xi g b 0) (xi g b 1) (xi g b 2) (xi g b 3) (xi g b 4)) (xsz g) 7 (xi g b 7)) (xsz g) 8 (xi g b 8)) (xsz g) j := fun j hj => xi_setIK hj
  refine lp_X7_copy (d := d + 4) (o := o) (arr := arr) (tl := tl) (o2 := o2) (tl2 := xsz g + 1) (ta2 := xsz g + 2) (by rw [FH.tag hlb, hb]; decide) (by rw [FH.own hlb]; exact hbo) (by rw [FH.r' hlb hbo]; exact r8) (r9.fr FH hoo) hoo hT1 (by rw [w5]; decide) (by rw [w6]; exact h12) w9 (by omega) hl4 wal.1.2.2.2.2.1 (by rw [wal.2]; decide) (fun g' hA F => ?_) (ts.length + 1) 0 _ (by omega) (by omega) wal.1 xFr.rf
  have hc : xsz g < xsz (xsetI (xsetI (xsetI (xRI (xNew g (xBlank 6 o1 9) 9) (xsz g) o2 (xi g b 0) (xi g b 1) (xi g b 2) (xi g b 3) (xi g b 4)) (xsz g) 7 (xi g b 7)) (xsz g) 8 (xi g b 8)) (xsz g) 5 (xi g b 5)) := xlt (by rw [w5]; decide)
  have e : xc g' (xsz g) = xc (xsetI (xsetI (xsetI (xRI (xNew g (xBlank 6 o1 9) 9) (xsz g) o2 (xi g b 0) (xi g b 1) (xi g b 2) (xi g b 3) (xi g b 4)) (xsz g) 7 (xi g b 7)) (xsz g) 8 (xi g b 8)) (xsz g) 5 (xi g b 5)) (xsz g) := F.c hc (by rw [w6]; exact h12)
  have FF : xFr (oEq o2) 40 g g' := (FH.tr F).sub (fun _ h => h) (by omega)
  have hta : xsz g + 2 < xsz (xsetI (xsetI (xsetI (xRI (xNew g (xBlank 6 o1 9) 9) (xsz g) o2 (xi g b 0) (xi g b 1) (xi g b 2) (xi g b 3) (xi g b 4)) (xsz g) 7 (xi g b 7)) (xsz g) 8 (xi g b 8)) (xsz g) 5 (xi g b 5)) := xlt (by rw [wal.1.2.2.2.2.1]; decide)
  refine ⟨rfl, ⟨?_, ?_, ?_, ?_, ?_, ?_, ?_, ?_, hA, r10.fr hq FF (by unfold oEq; omega), ?_, ?_, ?_⟩, ?_, ?_, FF⟩
  · rw [xtag_of e, w5]; decide
  · rw [xi_of e, wi 0 (by decide)]; rw [xi_setIK (by decide), xi_setIK (by decide)]; exact z3.trans r2
  · rw [xi_of e, wi 1 (by decide)]; rw [xi_setIK (by decide), xi_setIK (by decide)]; exact z4.trans r3
  · rw [xi_of e, wi 2 (by decide)]; rw [xi_setIK (by decide), xi_setIK (by decide)]; exact z5.trans r4
  · rw [xi_of e, wi 3 (by decide)]; rw [xi_setIK (by decide), xi_setIK (by decide)]; exact z6.trans r5
  · rw [xi_of e, wi 4 (by decide)]; rw [xi_setIK (by decide), xi_setIK (by decide)]; exact z7.trans r6
  · rw [xi_of e, w0]; exact r7
  · rw [xr_of e]; exact w9
  · unfold rOf at r11 ⊢
    rw [xtag_of e, w5]
    rw [hb] at r11
    rw [xi_of e, wi 7 (by decide)]
    show xi (xsetI (xsetI (xRI (xNew g (xBlank 6 o1 9) 9) (xsz g) o2 (xi g b 0) (xi g b 1) (xi g b 2) (xi g b 3) (xi g b 4)) (xsz g) 7 (xi g b 7)) (xsz g) 8 (xi g b 8)) (xsz g) 7 = _
    rw [xi_setIK (by decide), xi_setIS (by rw [z1, x1]; decide)]
    exact r11
  · unfold rDep at r12 ⊢
    rw [xtag_of e, w5]
    rw [hb] at r12
    rw [xi_of e, wi 8 (by decide)]
    show xi (xsetI (xsetI (xRI (xNew g (xBlank 6 o1 9) 9) (xsz g) o2 (xi g b 0) (xi g b 1) (xi g b 2) (xi g b 3) (xi g b 4)) (xsz g) 7 (xi g b 7)) (xsz g) 8 (xi g b 8)) (xsz g) 8 = _
    rw [xi_setIS (by rw [xtag_setI, z1, x1]; decide)]
    exact r12
  · unfold rEff at r13 ⊢
    rw [xtag_of e, w5, effO_fr FF]
    rw [hb] at r13
    exact r13
  · rw [xown_of e]; exact w6
  · rw [F.len hta, wal.2]; exact Nat.le_refl _

theorem SP_X7_copy {d : Nat} {g : xG} {s : Nat → Int32} {r b o tl arr o1 o2 : Nat} {ts : List Nat} (hR : xRu g s r b o tl arr ts) (hq : ∀ j, j < ts.length → xown g (ts.getD j 0) = 2) (ho1 : o1 ≠ 0) (ho2 : 2 < o2) (h12 : o1 ≠ o2) (hbo : xown g b ≠ o2) (hoo : o ≠ o2) (hl4 : ts.length ≤ 4) : XM M_X7_copy (d + 7) [.ref b] g (xVal (.ref (xsz g)) (fun g' => xRu g' s r (xsz g) o2 (xsz g + 1) (xsz g + 2) ts ∧ xown g' (xsz g) = o1 ∧ 4 ≤ xlen g' (xsz g + 2) ∧ xFr (oEq o2) 40 g g')) := by
  rcases hR.1 with h | h
  · exact SP_X7_copy6 hR hq ho1 ho2 h12 hbo hoo hl4 h
  · exact SP_X7_copy7 hR hq ho1 ho2 h12 hbo hoo hl4 h
