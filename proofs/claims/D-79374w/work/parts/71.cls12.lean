/-! CLASS 12: rules, their making -/
set_option maxRecDepth 100000
/-- the list a made: an array of n behind the heap's end -/
def xLI (g : xG) (a o n : Nat) : xG := xsetR (xNew (xsetI g a 0 (nI 0)) (xBlank 108 o n) n) a 1 (some (xsz g))
section L12
variable {g g0 : xG} {a o n N c : Nat} {O : Nat → Prop}
theorem xLI_sz : xsz (xLI g a o n) = xsz g + 1 := rfl
theorem xLI_E : xE (xLI g a o n) = xE g := rfl
theorem xLI_c (h : c < xsz g) (hc : c ≠ a) : xc (xLI g a o n) c = xc g c := by
  unfold xLI
  rw [xc_setR hc, xc_newN (Nat.ne_of_lt (show c < xsz (xsetI g a 0 (nI 0)) from h)), xc_setI hc]
theorem xLI_tag (h : c < xsz g) : xtag (xLI g a o n) c = xtag g c := by
  unfold xLI
  rw [xtag_setR, xtag_new (show c < xsz (xsetI g a 0 (nI 0)) from h), xtag_setI]
theorem xLI_own (h : c < xsz g) : xown (xLI g a o n) c = xown g c := by
  unfold xLI
  rw [xown_setR, xown_new (show c < xsz (xsetI g a 0 (nI 0)) from h), xown_setI]
theorem xLI_len (h : c < xsz g) : xlen (xLI g a o n) c = xlen g c := by
  unfold xLI
  rw [xlen_setR, xlen_new (show c < xsz (xsetI g a 0 (nI 0)) from h), xlen_setI]
theorem xLI.fr (h : xFr O N g0 g) (ho : xsz g0 ≤ a ∨ O (xown g a)) (ha : a < xsz g) : xFr O (N + (n + 1)) g0 (xLI g a o n) := by
  have h1 : xFr O N g0 (xsetI g a 0 (nI 0)) := h.si ho
  have h2 : xFr O (N + (n + 1)) g0 (xNew (xsetI g a 0 (nI 0)) (xBlank 108 o n) n) := h1.nw
  exact h2.sr (by rw [xown_new (show a < xsz (xsetI g a 0 (nI 0)) from ha), xown_setI]; exact ho)
theorem xLI_al (t1 : xtag g a = 18) (ho : xown g a = o) (hs : xi g a 2 = nI 0) (hn : n < 1000) : xAL (xLI g a o n) o a (xsz g) [] ∧ xlen (xLI g a o n) (xsz g) = n := by
  have hlt : a < xsz g := xlt (by rw [t1]; decide)
  have hlt1 : a < xsz (xsetI g a 0 (nI 0)) := hlt
  unfold xLI
  refine ⟨⟨?_, ?_, ?_, ?_, ?_, Or.inl ?_, ?_, ?_, fun i hi => absurd hi (Nat.not_lt_zero i)⟩, ?_⟩
  · rw [xtag_setR, xtag_new hlt1, xtag_setI]; exact t1
  · rw [xown_setR, xown_new hlt1, xown_setI]; exact ho
  · rw [xr_setRS (by rw [xtag_new hlt1, xtag_setI, t1]; decide)]
  · rw [xi_setR, xi_new hlt1, xi_setIK (by decide)]; exact hs
  · rw [xtag_setR, xtag_newS (b := xsz g) (g := xsetI g a 0 (nI 0)) rfl]; rfl
  · rw [xown_setR, xown_newS (b := xsz g) (g := xsetI g a 0 (nI 0)) rfl]; rfl
  · exact Nat.zero_le _
  · rw [xlen_setR, xlen_newS (b := xsz g) (g := xsetI g a 0 (nI 0)) rfl]; exact hn
  · rw [xlen_setR, xlen_newS (b := xsz g) (g := xsetI g a 0 (nI 0)) rfl]; rfl
end L12
/-- the list at the heap's end, made anew -/
def xLN (g : xG) (o n : Nat) : xG := xLI (xNew g (xBlank 18 o 3) 3) (xsz g) o n
section LN12
variable {g g0 : xG} {o n N c : Nat} {O : Nat → Prop}
theorem xLN_sz : xsz (xLN g o n) = xsz g + 2 := rfl
theorem xLN_E : xE (xLN g o n) = xE g := rfl
theorem xLN_c (h : c < xsz g) : xc (xLN g o n) c = xc g c := by
  unfold xLN
  rw [xLI_c (Nat.lt_succ_of_lt h) (Nat.ne_of_lt h), xc_newN (Nat.ne_of_lt h)]
theorem xLN.fr (h : xFr O N g0 g) : xFr O (N + (n + 5)) g0 (xLN g o n) := by
  have h1 : xFr O (N + (3 + 1)) g0 (xNew g (xBlank 18 o 3) 3) := h.nw
  exact (xLI.fr h1 (Or.inl h.le) (Nat.lt_succ_self _)).sub (fun _ h => h) (by omega)
theorem xLN_al (hn : n < 1000) : xAL (xLN g o n) o (xsz g) (xsz g + 1) [] ∧ xlen (xLN g o n) (xsz g + 1) = n :=
  xLI_al (by rw [xtag_newS rfl]; rfl) (by rw [xown_newS rfl]; rfl) (by rw [xi_newS rfl]; rfl) hn
end LN12
/-- a rule made: its ints, an empty list of tests -/
def xRI (g : xG) (a o2 : Nat) (k sc rk f l : Int32) : xG := xsetI (xsetI (xsetI (xsetI (xsetI (xsetR (xLN (xsetI g a 5 (nI 100)) o2 4) a 6 (some (xsz g))) a 0 k) a 1 sc) a 2 rk) a 3 f) a 4 l
section R12
variable {g g0 : xG} {a o2 N c : Nat} {k sc rk f l : Int32} {O : Nat → Prop}
theorem xRI_sz : xsz (xRI g a o2 k sc rk f l) = xsz g + 2 := rfl
theorem xRI_E : xE (xRI g a o2 k sc rk f l) = xE g := rfl
theorem xRI_c (h : c < xsz g) (hc : c ≠ a) : xc (xRI g a o2 k sc rk f l) c = xc g c := by
  unfold xRI
  rw [xc_setI hc, xc_setI hc, xc_setI hc, xc_setI hc, xc_setI hc, xc_setR hc, xLN_c (show c < xsz (xsetI g a 5 (nI 100)) from h), xc_setI hc]
theorem xRI.fr (h : xFr O N g0 g) (ha : a < xsz g) (ho : xsz g0 ≤ a ∨ O (xown g a)) : xFr O (N + 9) g0 (xRI g a o2 k sc rk f l) := by
  have h1 : xFr O N g0 (xsetI g a 5 (nI 100)) := h.si ho
  have h2 : xFr O (N + 9) g0 (xLN (xsetI g a 5 (nI 100)) o2 4) := xLN.fr h1
  have e : xown (xLN (xsetI g a 5 (nI 100)) o2 4) a = xown g a := by unfold xown; rw [xLN_c (show a < xsz (xsetI g a 5 (nI 100)) from ha)]; exact xown_setI
  unfold xRI
  exact ((((((h2.sr (by rw [e]; exact ho)).si (by rw [xown_setR, e]; exact ho)).si (by simp only [xown_setI, xown_setR]; rw [e]; exact ho)).si (by simp only [xown_setI, xown_setR]; rw [e]; exact ho)).si (by simp only [xown_setI, xown_setR]; rw [e]; exact ho)).si (by simp only [xown_setI, xown_setR]; rw [e]; exact ho))
theorem xRI_a (ht : xtag g a ≠ 0) : xtag (xRI g a o2 k sc rk f l) a = xtag g a ∧ xown (xRI g a o2 k sc rk f l) a = xown g a ∧ xi (xRI g a o2 k sc rk f l) a 0 = k ∧ xi (xRI g a o2 k sc rk f l) a 1 = sc ∧ xi (xRI g a o2 k sc rk f l) a 2 = rk ∧ xi (xRI g a o2 k sc rk f l) a 3 = f ∧ xi (xRI g a o2 k sc rk f l) a 4 = l ∧ xi (xRI g a o2 k sc rk f l) a 5 = nI 100 ∧ xr (xRI g a o2 k sc rk f l) a 6 = some (xsz g) := by
  have ha : a < xsz g := xlt ht
  have e := xLN_c (o := o2) (n := 4) (show a < xsz (xsetI g a 5 (nI 100)) from ha)
  have e1 : xtag (xLN (xsetI g a 5 (nI 100)) o2 4) a = xtag g a := by unfold xtag; rw [e]; exact xtag_setI
  have e2 : xown (xLN (xsetI g a 5 (nI 100)) o2 4) a = xown g a := by unfold xown; rw [e]; exact xown_setI
  have e3 : xi (xLN (xsetI g a 5 (nI 100)) o2 4) a 5 = nI 100 := by rw [xi_c e]; exact xi_setIS ht
  have e4 : xtag (xLN (xsetI g a 5 (nI 100)) o2 4) a ≠ 0 := by rw [e1]; exact ht
  unfold xRI
  refine ⟨?_, ?_, ?_, ?_, ?_, ?_, ?_, ?_, ?_⟩
  · simp only [xtag_setI, xtag_setR]; exact e1
  · simp only [xown_setI, xown_setR]; exact e2
  · rw [xi_setIK (by decide), xi_setIK (by decide), xi_setIK (by decide), xi_setIK (by decide), xi_setIS (by rw [xtag_setR]; exact e4)]
  · rw [xi_setIK (by decide), xi_setIK (by decide), xi_setIK (by decide), xi_setIS (by rw [xtag_setI, xtag_setR]; exact e4)]
  · rw [xi_setIK (by decide), xi_setIK (by decide), xi_setIS (by simp only [xtag_setI, xtag_setR]; exact e4)]
  · rw [xi_setIK (by decide), xi_setIS (by simp only [xtag_setI, xtag_setR]; exact e4)]
  · rw [xi_setIS (by simp only [xtag_setI, xtag_setR]; exact e4)]
  · rw [xi_setIK (by decide), xi_setIK (by decide), xi_setIK (by decide), xi_setIK (by decide), xi_setIK (by decide), xi_setR]; exact e3
  · simp only [xr_setI]; rw [xr_setRS e4]
theorem xRI_al (ha : a < xsz g) : xAL (xRI g a o2 k sc rk f l) o2 (xsz g) (xsz g + 1) [] ∧ xlen (xRI g a o2 k sc rk f l) (xsz g + 1) = 4 := by
  have h := xLN_al (g := xsetI g a 5 (nI 100)) (o := o2) (n := 4) (by decide)
  have n1 : xsz g ≠ a := by omega
  have n2 : xsz g + 1 ≠ a := by omega
  have ec : ∀ c, c ≠ a → xc (xRI g a o2 k sc rk f l) c = xc (xLN (xsetI g a 5 (nI 100)) o2 4) c := by
    intro c hc
    unfold xRI
    rw [xc_setI hc, xc_setI hc, xc_setI hc, xc_setI hc, xc_setI hc, xc_setR hc]
  have z1 : xc (xRI g a o2 k sc rk f l) (xsz g) = xc (xLN (xsetI g a 5 (nI 100)) o2 4) (xsz g) := ec _ n1
  have z2 : xc (xRI g a o2 k sc rk f l) (xsz g + 1) = xc (xLN (xsetI g a 5 (nI 100)) o2 4) (xsz g + 1) := ec _ n2
  obtain ⟨⟨t1, t2, t3, t4, t5, t6, t7, t8, t9⟩, t10⟩ := h
  refine ⟨⟨(xtag_of z1).trans t1, (xown_of z1).trans t2, (xr_of z1 _).trans t3, (xi_of z1 _).trans t4, (xtag_of z2).trans t5, ?_, by rw [xlen_of z2]; exact t7, by rw [xlen_of z2]; exact t8, fun i hi => absurd hi (Nat.not_lt_zero i)⟩, (xlen_of z2).trans t10⟩
  rw [xown_of z2, xlen_of z2]
  exact t6
end R12
theorem SP_X7_init {d : Nat} {g : xG} {a o2 : Nat} {k sc rk f l : Int32} (ht : xsub 90 (xtag g a) = true) (ho : xown g a ≠ 0) (ho2 : o2 ≠ 0) : XM M_X7_init (d + 4) [.ref a, .int k, .int sc, .int rk, .int f, .int l] g (xOne none (xRI g a o2 k sc rk f l)) := by
  have hta : xtag g a ≠ 0 := fun e => by rw [e] at ht; exact absurd ht (by decide)
  have ha : a < xsz g := xlt hta
  have h1 : xtag (xNew (xsetI g a 5 (nI 100)) (xBlank 18 o2 3) 3) (xsz g) = 18 := by rw [xtag_newS (b := xsz g) (g := xsetI g a 5 (nI 100)) rfl]; rfl
  have h2 : xown (xNew (xsetI g a 5 (nI 100)) (xBlank 18 o2 3) 3) (xsz g) = o2 := by rw [xown_newS (b := xsz g) (g := xsetI g a 5 (nI 100)) rfl]; rfl
  have ec := xLN_c (o := o2) (n := 4) (show a < xsz (xsetI g a 5 (nI 100)) from ha)
  have e1 : xtag (xLN (xsetI g a 5 (nI 100)) o2 4) a = xtag g a := by unfold xtag; rw [ec]; exact xtag_setI
  have e2 : xown (xLN (xsetI g a 5 (nI 100)) o2 4) a = xown g a := by unfold xown; rw [ec]; exact xown_setI
  refine xm_of (by decide +kernel) (Nat.le_of_ble_eq_true rfl) ?_
  show XW _ _ 0 [(0, _), (1, _), (2, _), (3, _), (4, _), (5, _)] [] _ _
  refine xw_aload_n (pc := 0) dX7_init_0 0 rfl ?_
  refine xw_objInit (pc := 1) dX7_init_1 q953 (Nat.le_of_ble_eq_true rfl) ?_
  refine xw_aload_n (pc := 4) dX7_init_4 0 rfl ?_
  refine xw_bipush (v := nI 100) (pc := 5) dX7_init_5 (by decide +kernel) ?_
  refine xw_putI (pc := 7) fd_X7_9 (xfin_of (by decide) (by decide +kernel)) dX7_init_7 (by first | assumption | (simp [xE_setI, xsz_setI, xsl_setI, xtag_setI, xown_setI, xlen_setI, xE_setR, xsz_setR, xsl_setR, xtag_setR, xown_setR, xlen_setR, xE_setW, xsz_setW, xsl_setW, xtag_setW, xown_setW, xlen_setW, xi_setR, xi_setW, xr_setI, xr_setW, xww_setI, xww_setR, xi_setI, xr_setR, xww_setW, xE_new, xsz_new, xsl_new, ht, ho, e1, e2, xsub]; done) | (simp [xE_setI, xsz_setI, xsl_setI, xtag_setI, xown_setI, xlen_setI, xE_setR, xsz_setR, xsl_setR, xtag_setR, xown_setR, xlen_setR, xE_setW, xsz_setW, xsl_setW, xtag_setW, xown_setW, xlen_setW, xi_setR, xi_setW, xr_setI, xr_setW, xww_setI, xww_setR, xi_setI, xr_setR, xww_setW, xE_new, xsz_new, xsl_new, ht, ho, e1, e2] <;> rfl)) (by first | assumption | (simp [xE_setI, xsz_setI, xsl_setI, xtag_setI, xown_setI, xlen_setI, xE_setR, xsz_setR, xsl_setR, xtag_setR, xown_setR, xlen_setR, xE_setW, xsz_setW, xsl_setW, xtag_setW, xown_setW, xlen_setW, xi_setR, xi_setW, xr_setI, xr_setW, xww_setI, xww_setR, xi_setI, xr_setR, xww_setW, xE_new, xsz_new, xsl_new, ht, ho, e1, e2]; done) | (simp [xE_setI, xsz_setI, xsl_setI, xtag_setI, xown_setI, xlen_setI, xE_setR, xsz_setR, xsl_setR, xtag_setR, xown_setR, xlen_setR, xE_setW, xsz_setW, xsl_setW, xtag_setW, xown_setW, xlen_setW, xi_setR, xi_setW, xr_setI, xr_setW, xww_setI, xww_setR, xi_setI, xr_setR, xww_setW, xE_new, xsz_new, xsl_new, ht, ho, e1, e2]; assumption)) ?_
  refine xw_aload_n (pc := 10) dX7_init_10 0 rfl ?_
  refine xw_new (t := 18) (pc := 11) o2 dX7_init_11 rfl (by decide) (by first | decide | assumption | omega) q954 q158 q96 ?_
  refine xw_at (a := (xsz g)) (by rfl) ?_
  refine xw_dup (pc := 14) dX7_init_14 rfl ?_
  refine xw_iconst (v := nI 4) (pc := 15) dX7_init_15 rfl ?_
  refine xw_callU (pc := 16) (xr_I (as := [_]) ok_J2_init rfl (by decide) q955 q160 rfl rfl dX7_init_16 rfl rfl (Nat.le_of_ble_eq_true rfl)) ((show XM M_J2_init (d + 3) [.ref (xsz g), .int (nI 4)] (xNew (xsetI g a 5 (nI 100)) (xBlank 18 o2 3) 3) (xOne none (xLN (xsetI g a 5 (nI 100)) o2 4)) from SP_J2_initX h1 h2 (by decide) (by decide) ho2)) ?_
  refine xw_putR (o := (some (xsz g))) (pc := 19) fd_X7_20 (xfin_of (by decide) (by decide +kernel)) dX7_init_19 (by first | assumption | (simp [xE_setI, xsz_setI, xsl_setI, xtag_setI, xown_setI, xlen_setI, xE_setR, xsz_setR, xsl_setR, xtag_setR, xown_setR, xlen_setR, xE_setW, xsz_setW, xsl_setW, xtag_setW, xown_setW, xlen_setW, xi_setR, xi_setW, xr_setI, xr_setW, xww_setI, xww_setR, xi_setI, xr_setR, xww_setW, xE_new, xsz_new, xsl_new, ht, ho, e1, e2, xsub]; done) | (simp [xE_setI, xsz_setI, xsl_setI, xtag_setI, xown_setI, xlen_setI, xE_setR, xsz_setR, xsl_setR, xtag_setR, xown_setR, xlen_setR, xE_setW, xsz_setW, xsl_setW, xtag_setW, xown_setW, xlen_setW, xi_setR, xi_setW, xr_setI, xr_setW, xww_setI, xww_setR, xi_setI, xr_setR, xww_setW, xE_new, xsz_new, xsl_new, ht, ho, e1, e2] <;> rfl)) (by first | assumption | (simp [xE_setI, xsz_setI, xsl_setI, xtag_setI, xown_setI, xlen_setI, xE_setR, xsz_setR, xsl_setR, xtag_setR, xown_setR, xlen_setR, xE_setW, xsz_setW, xsl_setW, xtag_setW, xown_setW, xlen_setW, xi_setR, xi_setW, xr_setI, xr_setW, xww_setI, xww_setR, xi_setI, xr_setR, xww_setW, xE_new, xsz_new, xsl_new, ht, ho, e1, e2]; done) | (simp [xE_setI, xsz_setI, xsl_setI, xtag_setI, xown_setI, xlen_setI, xE_setR, xsz_setR, xsl_setR, xtag_setR, xown_setR, xlen_setR, xE_setW, xsz_setW, xsl_setW, xtag_setW, xown_setW, xlen_setW, xi_setR, xi_setW, xr_setI, xr_setW, xww_setI, xww_setR, xi_setI, xr_setR, xww_setW, xE_new, xsz_new, xsl_new, ht, ho, e1, e2]; assumption)) rfl ?_
  refine xw_aload_n (pc := 22) dX7_init_22 0 rfl ?_
  refine xw_iload_n (pc := 23) dX7_init_23 1 rfl ?_
  refine xw_putI (pc := 24) fd_X7_24 (xfin_of (by decide) (by decide +kernel)) dX7_init_24 (by first | assumption | (simp [xE_setI, xsz_setI, xsl_setI, xtag_setI, xown_setI, xlen_setI, xE_setR, xsz_setR, xsl_setR, xtag_setR, xown_setR, xlen_setR, xE_setW, xsz_setW, xsl_setW, xtag_setW, xown_setW, xlen_setW, xi_setR, xi_setW, xr_setI, xr_setW, xww_setI, xww_setR, xi_setI, xr_setR, xww_setW, xE_new, xsz_new, xsl_new, ht, ho, e1, e2, xsub]; done) | (simp [xE_setI, xsz_setI, xsl_setI, xtag_setI, xown_setI, xlen_setI, xE_setR, xsz_setR, xsl_setR, xtag_setR, xown_setR, xlen_setR, xE_setW, xsz_setW, xsl_setW, xtag_setW, xown_setW, xlen_setW, xi_setR, xi_setW, xr_setI, xr_setW, xww_setI, xww_setR, xi_setI, xr_setR, xww_setW, xE_new, xsz_new, xsl_new, ht, ho, e1, e2] <;> rfl)) (by first | assumption | (simp [xE_setI, xsz_setI, xsl_setI, xtag_setI, xown_setI, xlen_setI, xE_setR, xsz_setR, xsl_setR, xtag_setR, xown_setR, xlen_setR, xE_setW, xsz_setW, xsl_setW, xtag_setW, xown_setW, xlen_setW, xi_setR, xi_setW, xr_setI, xr_setW, xww_setI, xww_setR, xi_setI, xr_setR, xww_setW, xE_new, xsz_new, xsl_new, ht, ho, e1, e2]; done) | (simp [xE_setI, xsz_setI, xsl_setI, xtag_setI, xown_setI, xlen_setI, xE_setR, xsz_setR, xsl_setR, xtag_setR, xown_setR, xlen_setR, xE_setW, xsz_setW, xsl_setW, xtag_setW, xown_setW, xlen_setW, xi_setR, xi_setW, xr_setI, xr_setW, xww_setI, xww_setR, xi_setI, xr_setR, xww_setW, xE_new, xsz_new, xsl_new, ht, ho, e1, e2]; assumption)) ?_
  refine xw_aload_n (pc := 27) dX7_init_27 0 rfl ?_
  refine xw_iload_n (pc := 28) dX7_init_28 2 rfl ?_
  refine xw_putI (pc := 29) fd_X7_27 (xfin_of (by decide) (by decide +kernel)) dX7_init_29 (by first | assumption | (simp [xE_setI, xsz_setI, xsl_setI, xtag_setI, xown_setI, xlen_setI, xE_setR, xsz_setR, xsl_setR, xtag_setR, xown_setR, xlen_setR, xE_setW, xsz_setW, xsl_setW, xtag_setW, xown_setW, xlen_setW, xi_setR, xi_setW, xr_setI, xr_setW, xww_setI, xww_setR, xi_setI, xr_setR, xww_setW, xE_new, xsz_new, xsl_new, ht, ho, e1, e2, xsub]; done) | (simp [xE_setI, xsz_setI, xsl_setI, xtag_setI, xown_setI, xlen_setI, xE_setR, xsz_setR, xsl_setR, xtag_setR, xown_setR, xlen_setR, xE_setW, xsz_setW, xsl_setW, xtag_setW, xown_setW, xlen_setW, xi_setR, xi_setW, xr_setI, xr_setW, xww_setI, xww_setR, xi_setI, xr_setR, xww_setW, xE_new, xsz_new, xsl_new, ht, ho, e1, e2] <;> rfl)) (by first | assumption | (simp [xE_setI, xsz_setI, xsl_setI, xtag_setI, xown_setI, xlen_setI, xE_setR, xsz_setR, xsl_setR, xtag_setR, xown_setR, xlen_setR, xE_setW, xsz_setW, xsl_setW, xtag_setW, xown_setW, xlen_setW, xi_setR, xi_setW, xr_setI, xr_setW, xww_setI, xww_setR, xi_setI, xr_setR, xww_setW, xE_new, xsz_new, xsl_new, ht, ho, e1, e2]; done) | (simp [xE_setI, xsz_setI, xsl_setI, xtag_setI, xown_setI, xlen_setI, xE_setR, xsz_setR, xsl_setR, xtag_setR, xown_setR, xlen_setR, xE_setW, xsz_setW, xsl_setW, xtag_setW, xown_setW, xlen_setW, xi_setR, xi_setW, xr_setI, xr_setW, xww_setI, xww_setR, xi_setI, xr_setR, xww_setW, xE_new, xsz_new, xsl_new, ht, ho, e1, e2]; assumption)) ?_
  refine xw_aload_n (pc := 32) dX7_init_32 0 rfl ?_
  refine xw_iload_n (pc := 33) dX7_init_33 3 rfl ?_
  refine xw_putI (pc := 34) fd_X7_30 (xfin_of (by decide) (by decide +kernel)) dX7_init_34 (by first | assumption | (simp [xE_setI, xsz_setI, xsl_setI, xtag_setI, xown_setI, xlen_setI, xE_setR, xsz_setR, xsl_setR, xtag_setR, xown_setR, xlen_setR, xE_setW, xsz_setW, xsl_setW, xtag_setW, xown_setW, xlen_setW, xi_setR, xi_setW, xr_setI, xr_setW, xww_setI, xww_setR, xi_setI, xr_setR, xww_setW, xE_new, xsz_new, xsl_new, ht, ho, e1, e2, xsub]; done) | (simp [xE_setI, xsz_setI, xsl_setI, xtag_setI, xown_setI, xlen_setI, xE_setR, xsz_setR, xsl_setR, xtag_setR, xown_setR, xlen_setR, xE_setW, xsz_setW, xsl_setW, xtag_setW, xown_setW, xlen_setW, xi_setR, xi_setW, xr_setI, xr_setW, xww_setI, xww_setR, xi_setI, xr_setR, xww_setW, xE_new, xsz_new, xsl_new, ht, ho, e1, e2] <;> rfl)) (by first | assumption | (simp [xE_setI, xsz_setI, xsl_setI, xtag_setI, xown_setI, xlen_setI, xE_setR, xsz_setR, xsl_setR, xtag_setR, xown_setR, xlen_setR, xE_setW, xsz_setW, xsl_setW, xtag_setW, xown_setW, xlen_setW, xi_setR, xi_setW, xr_setI, xr_setW, xww_setI, xww_setR, xi_setI, xr_setR, xww_setW, xE_new, xsz_new, xsl_new, ht, ho, e1, e2]; done) | (simp [xE_setI, xsz_setI, xsl_setI, xtag_setI, xown_setI, xlen_setI, xE_setR, xsz_setR, xsl_setR, xtag_setR, xown_setR, xlen_setR, xE_setW, xsz_setW, xsl_setW, xtag_setW, xown_setW, xlen_setW, xi_setR, xi_setW, xr_setI, xr_setW, xww_setI, xww_setR, xi_setI, xr_setR, xww_setW, xE_new, xsz_new, xsl_new, ht, ho, e1, e2]; assumption)) ?_
  refine xw_aload_n (pc := 37) dX7_init_37 0 rfl ?_
  refine xw_iload (pc := 38) dX7_init_38 4 rfl ?_
  refine xw_putI (pc := 40) fd_X7_33 (xfin_of (by decide) (by decide +kernel)) dX7_init_40 (by first | assumption | (simp [xE_setI, xsz_setI, xsl_setI, xtag_setI, xown_setI, xlen_setI, xE_setR, xsz_setR, xsl_setR, xtag_setR, xown_setR, xlen_setR, xE_setW, xsz_setW, xsl_setW, xtag_setW, xown_setW, xlen_setW, xi_setR, xi_setW, xr_setI, xr_setW, xww_setI, xww_setR, xi_setI, xr_setR, xww_setW, xE_new, xsz_new, xsl_new, ht, ho, e1, e2, xsub]; done) | (simp [xE_setI, xsz_setI, xsl_setI, xtag_setI, xown_setI, xlen_setI, xE_setR, xsz_setR, xsl_setR, xtag_setR, xown_setR, xlen_setR, xE_setW, xsz_setW, xsl_setW, xtag_setW, xown_setW, xlen_setW, xi_setR, xi_setW, xr_setI, xr_setW, xww_setI, xww_setR, xi_setI, xr_setR, xww_setW, xE_new, xsz_new, xsl_new, ht, ho, e1, e2] <;> rfl)) (by first | assumption | (simp [xE_setI, xsz_setI, xsl_setI, xtag_setI, xown_setI, xlen_setI, xE_setR, xsz_setR, xsl_setR, xtag_setR, xown_setR, xlen_setR, xE_setW, xsz_setW, xsl_setW, xtag_setW, xown_setW, xlen_setW, xi_setR, xi_setW, xr_setI, xr_setW, xww_setI, xww_setR, xi_setI, xr_setR, xww_setW, xE_new, xsz_new, xsl_new, ht, ho, e1, e2]; done) | (simp [xE_setI, xsz_setI, xsl_setI, xtag_setI, xown_setI, xlen_setI, xE_setR, xsz_setR, xsl_setR, xtag_setR, xown_setR, xlen_setR, xE_setW, xsz_setW, xsl_setW, xtag_setW, xown_setW, xlen_setW, xi_setR, xi_setW, xr_setI, xr_setW, xww_setI, xww_setR, xi_setI, xr_setR, xww_setW, xE_new, xsz_new, xsl_new, ht, ho, e1, e2]; assumption)) ?_
  refine xw_aload_n (pc := 43) dX7_init_43 0 rfl ?_
  refine xw_iload (pc := 44) dX7_init_44 5 rfl ?_
  refine xw_putI (pc := 46) fd_X7_36 (xfin_of (by decide) (by decide +kernel)) dX7_init_46 (by first | assumption | (simp [xE_setI, xsz_setI, xsl_setI, xtag_setI, xown_setI, xlen_setI, xE_setR, xsz_setR, xsl_setR, xtag_setR, xown_setR, xlen_setR, xE_setW, xsz_setW, xsl_setW, xtag_setW, xown_setW, xlen_setW, xi_setR, xi_setW, xr_setI, xr_setW, xww_setI, xww_setR, xi_setI, xr_setR, xww_setW, xE_new, xsz_new, xsl_new, ht, ho, e1, e2, xsub]; done) | (simp [xE_setI, xsz_setI, xsl_setI, xtag_setI, xown_setI, xlen_setI, xE_setR, xsz_setR, xsl_setR, xtag_setR, xown_setR, xlen_setR, xE_setW, xsz_setW, xsl_setW, xtag_setW, xown_setW, xlen_setW, xi_setR, xi_setW, xr_setI, xr_setW, xww_setI, xww_setR, xi_setI, xr_setR, xww_setW, xE_new, xsz_new, xsl_new, ht, ho, e1, e2] <;> rfl)) (by first | assumption | (simp [xE_setI, xsz_setI, xsl_setI, xtag_setI, xown_setI, xlen_setI, xE_setR, xsz_setR, xsl_setR, xtag_setR, xown_setR, xlen_setR, xE_setW, xsz_setW, xsl_setW, xtag_setW, xown_setW, xlen_setW, xi_setR, xi_setW, xr_setI, xr_setW, xww_setI, xww_setR, xi_setI, xr_setR, xww_setW, xE_new, xsz_new, xsl_new, ht, ho, e1, e2]; done) | (simp [xE_setI, xsz_setI, xsl_setI, xtag_setI, xown_setI, xlen_setI, xE_setR, xsz_setR, xsl_setR, xtag_setR, xown_setR, xlen_setR, xE_setW, xsz_setW, xsl_setW, xtag_setW, xown_setW, xlen_setW, xi_setR, xi_setW, xr_setI, xr_setW, xww_setI, xww_setR, xi_setI, xr_setR, xww_setW, xE_new, xsz_new, xsl_new, ht, ho, e1, e2]; assumption)) ?_
  refine xw_vret (pc := 49) dX7_init_49 rfl ?_
  exact ⟨rfl, rfl⟩

theorem SP_X9_init {d : Nat} {g : xG} {a o2 : Nat} {e : Option Nat} {k sc rk f l : Int32} (ht : xtag g a = 7) (ho : xown g a ≠ 0) (ho2 : o2 ≠ 0) : XM M_X9_init (d + 5) [.ref a, xref e, .int k, .int sc, .int rk, .int f, .int l] g (xOne none (xsetR (xRI g a o2 k sc rk f l) a 7 e)) := by
  have hta : xtag g a ≠ 0 := by rw [ht]; decide
  have e1 : xtag (xRI g a o2 k sc rk f l) a = 7 := by rw [(xRI_a hta).1]; exact ht
  have e2 : xown (xRI g a o2 k sc rk f l) a ≠ 0 := by rw [(xRI_a hta).2.1]; exact ho
  refine xm_of (by decide +kernel) (by cases e <;> exact Nat.le_of_ble_eq_true rfl) ?_
  rw [show lv_args 0 [.ref a, xref e, .int k, .int sc, .int rk, .int f, .int l] = [(0, .ref a), (1, xref e), (2, .int k), (3, .int sc), (4, .int rk), (5, .int f), (6, .int l)] from by cases e <;> rfl]
  refine xw_aload_n (pc := 0) dX9_init_0 0 rfl ?_
  refine xw_iload_n (pc := 1) dX9_init_1 2 rfl ?_
  refine xw_iload_n (pc := 2) dX9_init_2 3 rfl ?_
  refine xw_iload (pc := 3) dX9_init_3 4 rfl ?_
  refine xw_iload (pc := 5) dX9_init_5 5 rfl ?_
  refine xw_iload (pc := 7) dX9_init_7 6 rfl ?_
  refine xw_callU (pc := 9) (xr_I (as := [_, _, _, _, _]) ok_X7_init rfl (by decide) q1015 q951 rfl rfl dX9_init_9 rfl rfl (Nat.le_of_ble_eq_true rfl)) (SP_X7_init (by rw [ht]; rfl) ho ho2) ?_
  refine xw_aload_n (pc := 12) dX9_init_12 0 rfl ?_
  refine xw_aload_n (pc := 13) dX9_init_13 1 rfl ?_
  refine xw_putR (o := e) (pc := 14) fd_X9_9 (xfin_of (by decide) (by decide +kernel)) dX9_init_14 (by first | assumption | (simp [xE_setI, xsz_setI, xsl_setI, xtag_setI, xown_setI, xlen_setI, xE_setR, xsz_setR, xsl_setR, xtag_setR, xown_setR, xlen_setR, xE_setW, xsz_setW, xsl_setW, xtag_setW, xown_setW, xlen_setW, xi_setR, xi_setW, xr_setI, xr_setW, xww_setI, xww_setR, xi_setI, xr_setR, xww_setW, xE_new, xsz_new, xsl_new, ht, e1, e2, xsub]; done) | (simp [xE_setI, xsz_setI, xsl_setI, xtag_setI, xown_setI, xlen_setI, xE_setR, xsz_setR, xsl_setR, xtag_setR, xown_setR, xlen_setR, xE_setW, xsz_setW, xsl_setW, xtag_setW, xown_setW, xlen_setW, xi_setR, xi_setW, xr_setI, xr_setW, xww_setI, xww_setR, xi_setI, xr_setR, xww_setW, xE_new, xsz_new, xsl_new, ht, e1, e2] <;> rfl)) (by first | assumption | (simp [xE_setI, xsz_setI, xsl_setI, xtag_setI, xown_setI, xlen_setI, xE_setR, xsz_setR, xsl_setR, xtag_setR, xown_setR, xlen_setR, xE_setW, xsz_setW, xsl_setW, xtag_setW, xown_setW, xlen_setW, xi_setR, xi_setW, xr_setI, xr_setW, xww_setI, xww_setR, xi_setI, xr_setR, xww_setW, xE_new, xsz_new, xsl_new, ht, e1, e2]; done) | (simp [xE_setI, xsz_setI, xsl_setI, xtag_setI, xown_setI, xlen_setI, xE_setR, xsz_setR, xsl_setR, xtag_setR, xown_setR, xlen_setR, xE_setW, xsz_setW, xsl_setW, xtag_setW, xown_setW, xlen_setW, xi_setR, xi_setW, xr_setI, xr_setW, xww_setI, xww_setR, xi_setI, xr_setR, xww_setW, xE_new, xsz_new, xsl_new, ht, e1, e2]; assumption)) rfl ?_
  refine xw_vret (pc := 17) dX9_init_17 rfl ?_
  exact ⟨rfl, rfl⟩

theorem SP_X8_init_2 {d : Nat} {g : xG} {a o2 b : Nat} {k sc rk f l : Int32} (ht : xtag g a = 6) (ho : xown g a ≠ 0) (ho2 : o2 ≠ 0) (hb : xtag g b = 6 ∨ xtag g b = 7) (hne : b ≠ a) : XM M_X8_init_2 (d + 5) [.ref a, .ref b, .int k, .int sc, .int rk, .int f, .int l] g (xOne none (xsetI (xsetI (xRI g a o2 k sc rk f l) a 7 (xi g b 0)) a 8 (rDep g b + nI 1))) := by
  have hta : xtag g a ≠ 0 := by rw [ht]; decide
  have hlb : b < xsz g := xlt (by omega)
  have e1 : xtag (xRI g a o2 k sc rk f l) a = 6 := by rw [(xRI_a hta).1]; exact ht
  have e2 : xown (xRI g a o2 k sc rk f l) a ≠ 0 := by rw [(xRI_a hta).2.1]; exact ho
  have ecb : xc (xRI g a o2 k sc rk f l) b = xc g b := xRI_c hlb hne
  have e3 : xtag (xRI g a o2 k sc rk f l) b = xtag g b := xtag_of ecb
  have e4 : xi (xRI g a o2 k sc rk f l) b 0 = xi g b 0 := xi_of ecb 0
  have hx : xsub 90 (xtag g b) = true := by rcases hb with h | h <;> rw [h] <;> rfl
  have hb2 : xtag (xsetI (xRI g a o2 k sc rk f l) a 7 (xi g b 0)) b = 6 ∨ xtag (xsetI (xRI g a o2 k sc rk f l) a 7 (xi g b 0)) b = 7 := by rw [xtag_setI, e3]; exact hb
  have e5 : rDep (xsetI (xRI g a o2 k sc rk f l) a 7 (xi g b 0)) b = rDep g b := by
    unfold rDep
    rw [xtag_setI, e3, xi_setIN hne, xi_of ecb]
  refine xm_of (by decide +kernel) (Nat.le_of_ble_eq_true rfl) ?_
  show XW _ _ 0 [(0, _), (1, _), (2, _), (3, _), (4, _), (5, _), (6, _)] [] _ _
  refine xw_aload_n (pc := 0) dX8_init_2_0 0 rfl ?_
  refine xw_iload_n (pc := 1) dX8_init_2_1 2 rfl ?_
  refine xw_iload_n (pc := 2) dX8_init_2_2 3 rfl ?_
  refine xw_iload (pc := 3) dX8_init_2_3 4 rfl ?_
  refine xw_iload (pc := 5) dX8_init_2_5 5 rfl ?_
  refine xw_iload (pc := 7) dX8_init_2_7 6 rfl ?_
  refine xw_callU (pc := 9) (xr_I (as := [_, _, _, _, _]) ok_X7_init rfl (by decide) q950 q951 rfl rfl dX8_init_2_9 rfl rfl (Nat.le_of_ble_eq_true rfl)) (SP_X7_init (by rw [ht]; rfl) ho ho2) ?_
  refine xw_aload_n (pc := 12) dX8_init_2_12 0 rfl ?_
  refine xw_aload_n (pc := 13) dX8_init_2_13 1 rfl ?_
  refine xw_getI (pc := 14) fd_X8_7 dX8_init_2_14 (by first | assumption | (simp [xE_setI, xsz_setI, xsl_setI, xtag_setI, xown_setI, xlen_setI, xE_setR, xsz_setR, xsl_setR, xtag_setR, xown_setR, xlen_setR, xE_setW, xsz_setW, xsl_setW, xtag_setW, xown_setW, xlen_setW, xi_setR, xi_setW, xr_setI, xr_setW, xww_setI, xww_setR, xi_setI, xr_setR, xww_setW, xE_new, xsz_new, xsl_new, ht, e1, e2, e3, e4, hx, xsub]; done) | (simp [xE_setI, xsz_setI, xsl_setI, xtag_setI, xown_setI, xlen_setI, xE_setR, xsz_setR, xsl_setR, xtag_setR, xown_setR, xlen_setR, xE_setW, xsz_setW, xsl_setW, xtag_setW, xown_setW, xlen_setW, xi_setR, xi_setW, xr_setI, xr_setW, xww_setI, xww_setR, xi_setI, xr_setR, xww_setW, xE_new, xsz_new, xsl_new, ht, e1, e2, e3, e4, hx] <;> rfl)) ?_
  rw [e4]
  refine xw_putI (pc := 17) fd_X8_11 (xfin_of (by decide) (by decide +kernel)) dX8_init_2_17 (by first | assumption | (simp [xE_setI, xsz_setI, xsl_setI, xtag_setI, xown_setI, xlen_setI, xE_setR, xsz_setR, xsl_setR, xtag_setR, xown_setR, xlen_setR, xE_setW, xsz_setW, xsl_setW, xtag_setW, xown_setW, xlen_setW, xi_setR, xi_setW, xr_setI, xr_setW, xww_setI, xww_setR, xi_setI, xr_setR, xww_setW, xE_new, xsz_new, xsl_new, ht, e1, e2, e3, e4, hx, xsub]; done) | (simp [xE_setI, xsz_setI, xsl_setI, xtag_setI, xown_setI, xlen_setI, xE_setR, xsz_setR, xsl_setR, xtag_setR, xown_setR, xlen_setR, xE_setW, xsz_setW, xsl_setW, xtag_setW, xown_setW, xlen_setW, xi_setR, xi_setW, xr_setI, xr_setW, xww_setI, xww_setR, xi_setI, xr_setR, xww_setW, xE_new, xsz_new, xsl_new, ht, e1, e2, e3, e4, hx] <;> rfl)) (by first | assumption | (simp [xE_setI, xsz_setI, xsl_setI, xtag_setI, xown_setI, xlen_setI, xE_setR, xsz_setR, xsl_setR, xtag_setR, xown_setR, xlen_setR, xE_setW, xsz_setW, xsl_setW, xtag_setW, xown_setW, xlen_setW, xi_setR, xi_setW, xr_setI, xr_setW, xww_setI, xww_setR, xi_setI, xr_setR, xww_setW, xE_new, xsz_new, xsl_new, ht, e1, e2, e3, e4, hx]; done) | (simp [xE_setI, xsz_setI, xsl_setI, xtag_setI, xown_setI, xlen_setI, xE_setR, xsz_setR, xsl_setR, xtag_setR, xown_setR, xlen_setR, xE_setW, xsz_setW, xsl_setW, xtag_setW, xown_setW, xlen_setW, xi_setR, xi_setW, xr_setI, xr_setW, xww_setI, xww_setR, xi_setI, xr_setR, xww_setW, xE_new, xsz_new, xsl_new, ht, e1, e2, e3, e4, hx]; assumption)) ?_
  refine xw_aload_n (pc := 20) dX8_init_2_20 0 rfl ?_
  refine xw_aload_n (pc := 21) dX8_init_2_21 1 rfl ?_
  refine xw_rdepth (pc := 22) hb2 dX8_init_2_22 q1364 (Nat.le_of_ble_eq_true rfl) ?_
  rw [e5]
  refine xw_iconst (v := nI 1) (pc := 25) dX8_init_2_25 rfl ?_
  refine xw_iadd (pc := 26) dX8_init_2_26 ?_
  refine xw_putI (pc := 27) fd_X8_20 (xfin_of (by decide) (by decide +kernel)) dX8_init_2_27 (by first | assumption | (simp [xE_setI, xsz_setI, xsl_setI, xtag_setI, xown_setI, xlen_setI, xE_setR, xsz_setR, xsl_setR, xtag_setR, xown_setR, xlen_setR, xE_setW, xsz_setW, xsl_setW, xtag_setW, xown_setW, xlen_setW, xi_setR, xi_setW, xr_setI, xr_setW, xww_setI, xww_setR, xi_setI, xr_setR, xww_setW, xE_new, xsz_new, xsl_new, ht, e1, e2, e3, e4, hx, xsub]; done) | (simp [xE_setI, xsz_setI, xsl_setI, xtag_setI, xown_setI, xlen_setI, xE_setR, xsz_setR, xsl_setR, xtag_setR, xown_setR, xlen_setR, xE_setW, xsz_setW, xsl_setW, xtag_setW, xown_setW, xlen_setW, xi_setR, xi_setW, xr_setI, xr_setW, xww_setI, xww_setR, xi_setI, xr_setR, xww_setW, xE_new, xsz_new, xsl_new, ht, e1, e2, e3, e4, hx] <;> rfl)) (by first | assumption | (simp [xE_setI, xsz_setI, xsl_setI, xtag_setI, xown_setI, xlen_setI, xE_setR, xsz_setR, xsl_setR, xtag_setR, xown_setR, xlen_setR, xE_setW, xsz_setW, xsl_setW, xtag_setW, xown_setW, xlen_setW, xi_setR, xi_setW, xr_setI, xr_setW, xww_setI, xww_setR, xi_setI, xr_setR, xww_setW, xE_new, xsz_new, xsl_new, ht, e1, e2, e3, e4, hx]; done) | (simp [xE_setI, xsz_setI, xsl_setI, xtag_setI, xown_setI, xlen_setI, xE_setR, xsz_setR, xsl_setR, xtag_setR, xown_setR, xlen_setR, xE_setW, xsz_setW, xsl_setW, xtag_setW, xown_setW, xlen_setW, xi_setR, xi_setW, xr_setI, xr_setW, xww_setI, xww_setR, xi_setI, xr_setR, xww_setW, xE_new, xsz_new, xsl_new, ht, e1, e2, e3, e4, hx]; assumption)) ?_
  refine xw_vret (pc := 30) dX8_init_2_30 rfl ?_
  exact ⟨rfl, rfl⟩

theorem SP_X8_number {d : Nat} {g : xG} {a : Nat} (ht : xtag g a = 6) : XM M_X8_number d [.ref a] g (xOne (some (.int (xi g a 0))) g) := by
  refine xm_of (by decide +kernel) (Nat.le_of_ble_eq_true rfl) ?_
  show XW _ _ 0 [(0, _)] [] _ _
  refine xw_aload_n (pc := 0) dX8_number_0 0 rfl ?_
  refine xw_getI (pc := 1) fd_X8_7 dX8_number_1 (by first | assumption | (simp [xE_setI, xsz_setI, xsl_setI, xtag_setI, xown_setI, xlen_setI, xE_setR, xsz_setR, xsl_setR, xtag_setR, xown_setR, xlen_setR, xE_setW, xsz_setW, xsl_setW, xtag_setW, xown_setW, xlen_setW, xi_setR, xi_setW, xr_setI, xr_setW, xww_setI, xww_setR, xi_setI, xr_setR, xww_setW, xE_new, xsz_new, xsl_new, ht, xsub]; done) | (simp [xE_setI, xsz_setI, xsl_setI, xtag_setI, xown_setI, xlen_setI, xE_setR, xsz_setR, xsl_setR, xtag_setR, xown_setR, xlen_setR, xE_setW, xsz_setW, xsl_setW, xtag_setW, xown_setW, xlen_setW, xi_setR, xi_setW, xr_setI, xr_setW, xww_setI, xww_setR, xi_setI, xr_setR, xww_setW, xE_new, xsz_new, xsl_new, ht] <;> rfl)) ?_
  refine xw_iret (pc := 4) .int dX8_number_4 rfl ?_ 
  exact ⟨rfl, rfl⟩

theorem SP_X8_scopeOf {d : Nat} {g : xG} {a : Nat} (ht : xtag g a = 6) : XM M_X8_scopeOf d [.ref a] g (xOne (some (.int (xi g a 1))) g) := by
  refine xm_of (by decide +kernel) (Nat.le_of_ble_eq_true rfl) ?_
  show XW _ _ 0 [(0, _)] [] _ _
  refine xw_aload_n (pc := 0) dX8_scopeOf_0 0 rfl ?_
  refine xw_getI (pc := 1) fd_X8_36 dX8_scopeOf_1 (by first | assumption | (simp [xE_setI, xsz_setI, xsl_setI, xtag_setI, xown_setI, xlen_setI, xE_setR, xsz_setR, xsl_setR, xtag_setR, xown_setR, xlen_setR, xE_setW, xsz_setW, xsl_setW, xtag_setW, xown_setW, xlen_setW, xi_setR, xi_setW, xr_setI, xr_setW, xww_setI, xww_setR, xi_setI, xr_setR, xww_setW, xE_new, xsz_new, xsl_new, ht, xsub]; done) | (simp [xE_setI, xsz_setI, xsl_setI, xtag_setI, xown_setI, xlen_setI, xE_setR, xsz_setR, xsl_setR, xtag_setR, xown_setR, xlen_setR, xE_setW, xsz_setW, xsl_setW, xtag_setW, xown_setW, xlen_setW, xi_setR, xi_setW, xr_setI, xr_setW, xww_setI, xww_setR, xi_setI, xr_setR, xww_setW, xE_new, xsz_new, xsl_new, ht] <;> rfl)) ?_
  refine xw_iret (pc := 4) .int dX8_scopeOf_4 rfl ?_ 
  exact ⟨rfl, rfl⟩

theorem SP_X8_rankOf {d : Nat} {g : xG} {a : Nat} (ht : xtag g a = 6) : XM M_X8_rankOf d [.ref a] g (xOne (some (.int (xi g a 2))) g) := by
  refine xm_of (by decide +kernel) (Nat.le_of_ble_eq_true rfl) ?_
  show XW _ _ 0 [(0, _)] [] _ _
  refine xw_aload_n (pc := 0) dX8_rankOf_0 0 rfl ?_
  refine xw_getI (pc := 1) fd_X8_39 dX8_rankOf_1 (by first | assumption | (simp [xE_setI, xsz_setI, xsl_setI, xtag_setI, xown_setI, xlen_setI, xE_setR, xsz_setR, xsl_setR, xtag_setR, xown_setR, xlen_setR, xE_setW, xsz_setW, xsl_setW, xtag_setW, xown_setW, xlen_setW, xi_setR, xi_setW, xr_setI, xr_setW, xww_setI, xww_setR, xi_setI, xr_setR, xww_setW, xE_new, xsz_new, xsl_new, ht, xsub]; done) | (simp [xE_setI, xsz_setI, xsl_setI, xtag_setI, xown_setI, xlen_setI, xE_setR, xsz_setR, xsl_setR, xtag_setR, xown_setR, xlen_setR, xE_setW, xsz_setW, xsl_setW, xtag_setW, xown_setW, xlen_setW, xi_setR, xi_setW, xr_setI, xr_setW, xww_setI, xww_setR, xi_setI, xr_setR, xww_setW, xE_new, xsz_new, xsl_new, ht] <;> rfl)) ?_
  refine xw_iret (pc := 4) .int dX8_rankOf_4 rfl ?_ 
  exact ⟨rfl, rfl⟩

theorem SP_X8_firstOf {d : Nat} {g : xG} {a : Nat} (ht : xtag g a = 6) : XM M_X8_firstOf d [.ref a] g (xOne (some (.int (xi g a 3))) g) := by
  refine xm_of (by decide +kernel) (Nat.le_of_ble_eq_true rfl) ?_
  show XW _ _ 0 [(0, _)] [] _ _
  refine xw_aload_n (pc := 0) dX8_firstOf_0 0 rfl ?_
  refine xw_getI (pc := 1) fd_X8_42 dX8_firstOf_1 (by first | assumption | (simp [xE_setI, xsz_setI, xsl_setI, xtag_setI, xown_setI, xlen_setI, xE_setR, xsz_setR, xsl_setR, xtag_setR, xown_setR, xlen_setR, xE_setW, xsz_setW, xsl_setW, xtag_setW, xown_setW, xlen_setW, xi_setR, xi_setW, xr_setI, xr_setW, xww_setI, xww_setR, xi_setI, xr_setR, xww_setW, xE_new, xsz_new, xsl_new, ht, xsub]; done) | (simp [xE_setI, xsz_setI, xsl_setI, xtag_setI, xown_setI, xlen_setI, xE_setR, xsz_setR, xsl_setR, xtag_setR, xown_setR, xlen_setR, xE_setW, xsz_setW, xsl_setW, xtag_setW, xown_setW, xlen_setW, xi_setR, xi_setW, xr_setI, xr_setW, xww_setI, xww_setR, xi_setI, xr_setR, xww_setW, xE_new, xsz_new, xsl_new, ht] <;> rfl)) ?_
  refine xw_iret (pc := 4) .int dX8_firstOf_4 rfl ?_ 
  exact ⟨rfl, rfl⟩

theorem SP_X8_lastOf {d : Nat} {g : xG} {a : Nat} (ht : xtag g a = 6) : XM M_X8_lastOf d [.ref a] g (xOne (some (.int (xi g a 4))) g) := by
  refine xm_of (by decide +kernel) (Nat.le_of_ble_eq_true rfl) ?_
  show XW _ _ 0 [(0, _)] [] _ _
  refine xw_aload_n (pc := 0) dX8_lastOf_0 0 rfl ?_
  refine xw_getI (pc := 1) fd_X8_45 dX8_lastOf_1 (by first | assumption | (simp [xE_setI, xsz_setI, xsl_setI, xtag_setI, xown_setI, xlen_setI, xE_setR, xsz_setR, xsl_setR, xtag_setR, xown_setR, xlen_setR, xE_setW, xsz_setW, xsl_setW, xtag_setW, xown_setW, xlen_setW, xi_setR, xi_setW, xr_setI, xr_setW, xww_setI, xww_setR, xi_setI, xr_setR, xww_setW, xE_new, xsz_new, xsl_new, ht, xsub]; done) | (simp [xE_setI, xsz_setI, xsl_setI, xtag_setI, xown_setI, xlen_setI, xE_setR, xsz_setR, xsl_setR, xtag_setR, xown_setR, xlen_setR, xE_setW, xsz_setW, xsl_setW, xtag_setW, xown_setW, xlen_setW, xi_setR, xi_setW, xr_setI, xr_setW, xww_setI, xww_setR, xi_setI, xr_setR, xww_setW, xE_new, xsz_new, xsl_new, ht] <;> rfl)) ?_
  refine xw_iret (pc := 4) .int dX8_lastOf_4 rfl ?_ 
  exact ⟨rfl, rfl⟩

theorem SP_X8_init {d : Nat} {g : xG} {a o2 b : Nat} (ht : xtag g a = 6) (ho : xown g a ≠ 0) (ho2 : o2 ≠ 0) (hb : xtag g b = 6) (hne : b ≠ a) : XM M_X8_init (d + 5) [.ref a, .ref b] g (xOne none (xsetI (xsetI (xRI g a o2 (xi g b 0) (xi g b 1) (xi g b 2) (xi g b 3) (xi g b 4)) a 7 (xi g b 7)) a 8 (xi g b 8))) := by
  have hta : xtag g a ≠ 0 := by rw [ht]; decide
  have hlb : b < xsz g := xlt (by omega)
  have e1 : xtag (xRI g a o2 (xi g b 0) (xi g b 1) (xi g b 2) (xi g b 3) (xi g b 4)) a = 6 := by rw [(xRI_a hta).1]; exact ht
  have e2 : xown (xRI g a o2 (xi g b 0) (xi g b 1) (xi g b 2) (xi g b 3) (xi g b 4)) a ≠ 0 := by rw [(xRI_a hta).2.1]; exact ho
  have ecb : xc (xRI g a o2 (xi g b 0) (xi g b 1) (xi g b 2) (xi g b 3) (xi g b 4)) b = xc g b := xRI_c hlb hne
  have e3 : xtag (xRI g a o2 (xi g b 0) (xi g b 1) (xi g b 2) (xi g b 3) (xi g b 4)) b = 6 := (xtag_of ecb).trans hb
  have e4 : xi (xRI g a o2 (xi g b 0) (xi g b 1) (xi g b 2) (xi g b 3) (xi g b 4)) b 7 = xi g b 7 := xi_of ecb 7
  have e5 : xi (xsetI (xRI g a o2 (xi g b 0) (xi g b 1) (xi g b 2) (xi g b 3) (xi g b 4)) a 7 (xi g b 7)) b 8 = xi g b 8 := by rw [xi_setIN hne]; exact xi_of ecb 8
  refine xm_of (by decide +kernel) (Nat.le_of_ble_eq_true rfl) ?_
  show XW _ _ 0 [(0, _), (1, _)] [] _ _
  refine xw_aload_n (pc := 0) dX8_init_0 0 rfl ?_
  refine xw_aload_n (pc := 1) dX8_init_1 1 rfl ?_
  refine xw_callV (pc := 2) (xr_V (as := []) ok_X8_number rfl (by decide) q930 q932 qs14 (by rw [hb]; rfl) (by rw [hb]; rfl) dX8_init_2 rfl rfl (Nat.le_of_ble_eq_true rfl)) (SP_X8_number hb) ?_
  refine xw_aload_n (pc := 5) dX8_init_5 1 rfl ?_
  refine xw_callV (pc := 6) (xr_V (as := []) ok_X8_scopeOf rfl (by decide) q934 q936 qs15 (by rw [hb]; rfl) (by rw [hb]; rfl) dX8_init_6 rfl rfl (Nat.le_of_ble_eq_true rfl)) (SP_X8_scopeOf hb) ?_
  refine xw_aload_n (pc := 9) dX8_init_9 1 rfl ?_
  refine xw_callV (pc := 10) (xr_V (as := []) ok_X8_rankOf rfl (by decide) q938 q940 qs16 (by rw [hb]; rfl) (by rw [hb]; rfl) dX8_init_10 rfl rfl (Nat.le_of_ble_eq_true rfl)) (SP_X8_rankOf hb) ?_
  refine xw_aload_n (pc := 13) dX8_init_13 1 rfl ?_
  refine xw_callV (pc := 14) (xr_V (as := []) ok_X8_firstOf rfl (by decide) q942 q944 qs17 (by rw [hb]; rfl) (by rw [hb]; rfl) dX8_init_14 rfl rfl (Nat.le_of_ble_eq_true rfl)) (SP_X8_firstOf hb) ?_
  refine xw_aload_n (pc := 17) dX8_init_17 1 rfl ?_
  refine xw_callV (pc := 18) (xr_V (as := []) ok_X8_lastOf rfl (by decide) q946 q948 qs18 (by rw [hb]; rfl) (by rw [hb]; rfl) dX8_init_18 rfl rfl (Nat.le_of_ble_eq_true rfl)) (SP_X8_lastOf hb) ?_
  refine xw_callU (pc := 21) (xr_I (as := [_, _, _, _, _]) ok_X7_init rfl (by decide) q950 q951 rfl rfl dX8_init_21 rfl rfl (Nat.le_of_ble_eq_true rfl)) (SP_X7_init (by rw [ht]; rfl) ho ho2) ?_
  refine xw_aload_n (pc := 24) dX8_init_24 0 rfl ?_
  refine xw_aload_n (pc := 25) dX8_init_25 1 rfl ?_
  refine xw_getI (pc := 26) fd_X8_11 dX8_init_26 (by first | assumption | (simp [xE_setI, xsz_setI, xsl_setI, xtag_setI, xown_setI, xlen_setI, xE_setR, xsz_setR, xsl_setR, xtag_setR, xown_setR, xlen_setR, xE_setW, xsz_setW, xsl_setW, xtag_setW, xown_setW, xlen_setW, xi_setR, xi_setW, xr_setI, xr_setW, xww_setI, xww_setR, xi_setI, xr_setR, xww_setW, xE_new, xsz_new, xsl_new, ht, e1, e2, e3, xsub]; done) | (simp [xE_setI, xsz_setI, xsl_setI, xtag_setI, xown_setI, xlen_setI, xE_setR, xsz_setR, xsl_setR, xtag_setR, xown_setR, xlen_setR, xE_setW, xsz_setW, xsl_setW, xtag_setW, xown_setW, xlen_setW, xi_setR, xi_setW, xr_setI, xr_setW, xww_setI, xww_setR, xi_setI, xr_setR, xww_setW, xE_new, xsz_new, xsl_new, ht, e1, e2, e3] <;> rfl)) ?_
  rw [e4]
  refine xw_putI (pc := 29) fd_X8_11 (xfin_of (by decide) (by decide +kernel)) dX8_init_29 (by first | assumption | (simp [xE_setI, xsz_setI, xsl_setI, xtag_setI, xown_setI, xlen_setI, xE_setR, xsz_setR, xsl_setR, xtag_setR, xown_setR, xlen_setR, xE_setW, xsz_setW, xsl_setW, xtag_setW, xown_setW, xlen_setW, xi_setR, xi_setW, xr_setI, xr_setW, xww_setI, xww_setR, xi_setI, xr_setR, xww_setW, xE_new, xsz_new, xsl_new, ht, e1, e2, e3, xsub]; done) | (simp [xE_setI, xsz_setI, xsl_setI, xtag_setI, xown_setI, xlen_setI, xE_setR, xsz_setR, xsl_setR, xtag_setR, xown_setR, xlen_setR, xE_setW, xsz_setW, xsl_setW, xtag_setW, xown_setW, xlen_setW, xi_setR, xi_setW, xr_setI, xr_setW, xww_setI, xww_setR, xi_setI, xr_setR, xww_setW, xE_new, xsz_new, xsl_new, ht, e1, e2, e3] <;> rfl)) (by first | assumption | (simp [xE_setI, xsz_setI, xsl_setI, xtag_setI, xown_setI, xlen_setI, xE_setR, xsz_setR, xsl_setR, xtag_setR, xown_setR, xlen_setR, xE_setW, xsz_setW, xsl_setW, xtag_setW, xown_setW, xlen_setW, xi_setR, xi_setW, xr_setI, xr_setW, xww_setI, xww_setR, xi_setI, xr_setR, xww_setW, xE_new, xsz_new, xsl_new, ht, e1, e2, e3]; done) | (simp [xE_setI, xsz_setI, xsl_setI, xtag_setI, xown_setI, xlen_setI, xE_setR, xsz_setR, xsl_setR, xtag_setR, xown_setR, xlen_setR, xE_setW, xsz_setW, xsl_setW, xtag_setW, xown_setW, xlen_setW, xi_setR, xi_setW, xr_setI, xr_setW, xww_setI, xww_setR, xi_setI, xr_setR, xww_setW, xE_new, xsz_new, xsl_new, ht, e1, e2, e3]; assumption)) ?_
  refine xw_aload_n (pc := 32) dX8_init_32 0 rfl ?_
  refine xw_aload_n (pc := 33) dX8_init_33 1 rfl ?_
  refine xw_getI (pc := 34) fd_X8_20 dX8_init_34 (by first | assumption | (simp [xE_setI, xsz_setI, xsl_setI, xtag_setI, xown_setI, xlen_setI, xE_setR, xsz_setR, xsl_setR, xtag_setR, xown_setR, xlen_setR, xE_setW, xsz_setW, xsl_setW, xtag_setW, xown_setW, xlen_setW, xi_setR, xi_setW, xr_setI, xr_setW, xww_setI, xww_setR, xi_setI, xr_setR, xww_setW, xE_new, xsz_new, xsl_new, ht, e1, e2, e3, xsub]; done) | (simp [xE_setI, xsz_setI, xsl_setI, xtag_setI, xown_setI, xlen_setI, xE_setR, xsz_setR, xsl_setR, xtag_setR, xown_setR, xlen_setR, xE_setW, xsz_setW, xsl_setW, xtag_setW, xown_setW, xlen_setW, xi_setR, xi_setW, xr_setI, xr_setW, xww_setI, xww_setR, xi_setI, xr_setR, xww_setW, xE_new, xsz_new, xsl_new, ht, e1, e2, e3] <;> rfl)) ?_
  rw [e5]
  refine xw_putI (pc := 37) fd_X8_20 (xfin_of (by decide) (by decide +kernel)) dX8_init_37 (by first | assumption | (simp [xE_setI, xsz_setI, xsl_setI, xtag_setI, xown_setI, xlen_setI, xE_setR, xsz_setR, xsl_setR, xtag_setR, xown_setR, xlen_setR, xE_setW, xsz_setW, xsl_setW, xtag_setW, xown_setW, xlen_setW, xi_setR, xi_setW, xr_setI, xr_setW, xww_setI, xww_setR, xi_setI, xr_setR, xww_setW, xE_new, xsz_new, xsl_new, ht, e1, e2, e3, xsub]; done) | (simp [xE_setI, xsz_setI, xsl_setI, xtag_setI, xown_setI, xlen_setI, xE_setR, xsz_setR, xsl_setR, xtag_setR, xown_setR, xlen_setR, xE_setW, xsz_setW, xsl_setW, xtag_setW, xown_setW, xlen_setW, xi_setR, xi_setW, xr_setI, xr_setW, xww_setI, xww_setR, xi_setI, xr_setR, xww_setW, xE_new, xsz_new, xsl_new, ht, e1, e2, e3] <;> rfl)) (by first | assumption | (simp [xE_setI, xsz_setI, xsl_setI, xtag_setI, xown_setI, xlen_setI, xE_setR, xsz_setR, xsl_setR, xtag_setR, xown_setR, xlen_setR, xE_setW, xsz_setW, xsl_setW, xtag_setW, xown_setW, xlen_setW, xi_setR, xi_setW, xr_setI, xr_setW, xww_setI, xww_setR, xi_setI, xr_setR, xww_setW, xE_new, xsz_new, xsl_new, ht, e1, e2, e3]; done) | (simp [xE_setI, xsz_setI, xsl_setI, xtag_setI, xown_setI, xlen_setI, xE_setR, xsz_setR, xsl_setR, xtag_setR, xown_setR, xlen_setR, xE_setW, xsz_setW, xsl_setW, xtag_setW, xown_setW, xlen_setW, xi_setR, xi_setW, xr_setI, xr_setW, xww_setI, xww_setR, xi_setI, xr_setR, xww_setW, xE_new, xsz_new, xsl_new, ht, e1, e2, e3]; assumption)) ?_
  refine xw_vret (pc := 40) dX8_init_40 rfl ?_
  exact ⟨rfl, rfl⟩

theorem SP_X9_anew {d : Nat} {g : xG} {b o1 o2 : Nat} (hb : xtag g b = 7) (ho1 : o1 ≠ 0) (ho2 : o2 ≠ 0) : XM M_X9_anew (d + 6) [.ref b] g (xOne (some (.ref (xsz g))) (xsetR (xRI (xNew g (xBlank 7 o1 8) 8) (xsz g) o2 (xi g b 0) (xi g b 1) (xi g b 2) (xi g b 3) (xi g b 4)) (xsz g) 7 (xr g b 7))) := by
  have hlb : b < xsz g := xlt (by rw [hb]; decide)
  have hnb : b ≠ xsz g := Nat.ne_of_lt hlb
  have f1 : xtag (xNew g (xBlank 7 o1 8) 8) (xsz g) = 7 := by rw [xtag_newS rfl]; rfl
  have f2 : xown (xNew g (xBlank 7 o1 8) 8) (xsz g) = o1 := by rw [xown_newS rfl]; rfl
  have f3 : xtag (xNew g (xBlank 7 o1 8) 8) b = xtag g b := xtag_new hlb
  have f4 : ∀ j, xi (xNew g (xBlank 7 o1 8) 8) b j = xi g b j := fun j => xi_new hlb
  have f5 : ∀ j, xr (xNew g (xBlank 7 o1 8) 8) b j = xr g b j := fun j => xr_new hlb
  refine xm_of (by decide +kernel) (Nat.le_of_ble_eq_true rfl) ?_
  show XW _ _ 0 [(0, _)] [] _ _
  refine xw_new (t := 7) (pc := 0) o1 dX9_anew_0 rfl (by decide) (by first | decide | assumption | omega) q1010 q1011 q125 ?_
  refine xw_at (a := (xsz g)) (by rfl) ?_
  refine xw_dup (pc := 3) dX9_anew_3 rfl ?_
  refine xw_aload_n (pc := 4) dX9_anew_4 0 rfl ?_
  refine xw_getR (pc := 5) fd_X9_9 dX9_anew_5 (by first | assumption | (simp [xE_setI, xsz_setI, xsl_setI, xtag_setI, xown_setI, xlen_setI, xE_setR, xsz_setR, xsl_setR, xtag_setR, xown_setR, xlen_setR, xE_setW, xsz_setW, xsl_setW, xtag_setW, xown_setW, xlen_setW, xi_setR, xi_setW, xr_setI, xr_setW, xww_setI, xww_setR, xi_setI, xr_setR, xww_setW, xE_new, xsz_new, xsl_new, hb, f3, f4, f5, xsub]; done) | (simp [xE_setI, xsz_setI, xsl_setI, xtag_setI, xown_setI, xlen_setI, xE_setR, xsz_setR, xsl_setR, xtag_setR, xown_setR, xlen_setR, xE_setW, xsz_setW, xsl_setW, xtag_setW, xown_setW, xlen_setW, xi_setR, xi_setW, xr_setI, xr_setW, xww_setI, xww_setR, xi_setI, xr_setR, xww_setW, xE_new, xsz_new, xsl_new, hb, f3, f4, f5] <;> rfl)) ?_
  refine xw_aload_n (pc := 8) dX9_anew_8 0 rfl ?_
  refine xw_getI (pc := 9) fd_X9_15 dX9_anew_9 (by first | assumption | (simp [xE_setI, xsz_setI, xsl_setI, xtag_setI, xown_setI, xlen_setI, xE_setR, xsz_setR, xsl_setR, xtag_setR, xown_setR, xlen_setR, xE_setW, xsz_setW, xsl_setW, xtag_setW, xown_setW, xlen_setW, xi_setR, xi_setW, xr_setI, xr_setW, xww_setI, xww_setR, xi_setI, xr_setR, xww_setW, xE_new, xsz_new, xsl_new, hb, f3, f4, f5, xsub]; done) | (simp [xE_setI, xsz_setI, xsl_setI, xtag_setI, xown_setI, xlen_setI, xE_setR, xsz_setR, xsl_setR, xtag_setR, xown_setR, xlen_setR, xE_setW, xsz_setW, xsl_setW, xtag_setW, xown_setW, xlen_setW, xi_setR, xi_setW, xr_setI, xr_setW, xww_setI, xww_setR, xi_setI, xr_setR, xww_setW, xE_new, xsz_new, xsl_new, hb, f3, f4, f5] <;> rfl)) ?_
  refine xw_aload_n (pc := 12) dX9_anew_12 0 rfl ?_
  refine xw_getI (pc := 13) fd_X9_19 dX9_anew_13 (by first | assumption | (simp [xE_setI, xsz_setI, xsl_setI, xtag_setI, xown_setI, xlen_setI, xE_setR, xsz_setR, xsl_setR, xtag_setR, xown_setR, xlen_setR, xE_setW, xsz_setW, xsl_setW, xtag_setW, xown_setW, xlen_setW, xi_setR, xi_setW, xr_setI, xr_setW, xww_setI, xww_setR, xi_setI, xr_setR, xww_setW, xE_new, xsz_new, xsl_new, hb, f3, f4, f5, xsub]; done) | (simp [xE_setI, xsz_setI, xsl_setI, xtag_setI, xown_setI, xlen_setI, xE_setR, xsz_setR, xsl_setR, xtag_setR, xown_setR, xlen_setR, xE_setW, xsz_setW, xsl_setW, xtag_setW, xown_setW, xlen_setW, xi_setR, xi_setW, xr_setI, xr_setW, xww_setI, xww_setR, xi_setI, xr_setR, xww_setW, xE_new, xsz_new, xsl_new, hb, f3, f4, f5] <;> rfl)) ?_
  refine xw_aload_n (pc := 16) dX9_anew_16 0 rfl ?_
  refine xw_getI (pc := 17) fd_X9_22 dX9_anew_17 (by first | assumption | (simp [xE_setI, xsz_setI, xsl_setI, xtag_setI, xown_setI, xlen_setI, xE_setR, xsz_setR, xsl_setR, xtag_setR, xown_setR, xlen_setR, xE_setW, xsz_setW, xsl_setW, xtag_setW, xown_setW, xlen_setW, xi_setR, xi_setW, xr_setI, xr_setW, xww_setI, xww_setR, xi_setI, xr_setR, xww_setW, xE_new, xsz_new, xsl_new, hb, f3, f4, f5, xsub]; done) | (simp [xE_setI, xsz_setI, xsl_setI, xtag_setI, xown_setI, xlen_setI, xE_setR, xsz_setR, xsl_setR, xtag_setR, xown_setR, xlen_setR, xE_setW, xsz_setW, xsl_setW, xtag_setW, xown_setW, xlen_setW, xi_setR, xi_setW, xr_setI, xr_setW, xww_setI, xww_setR, xi_setI, xr_setR, xww_setW, xE_new, xsz_new, xsl_new, hb, f3, f4, f5] <;> rfl)) ?_
  refine xw_aload_n (pc := 20) dX9_anew_20 0 rfl ?_
  refine xw_getI (pc := 21) fd_X9_25 dX9_anew_21 (by first | assumption | (simp [xE_setI, xsz_setI, xsl_setI, xtag_setI, xown_setI, xlen_setI, xE_setR, xsz_setR, xsl_setR, xtag_setR, xown_setR, xlen_setR, xE_setW, xsz_setW, xsl_setW, xtag_setW, xown_setW, xlen_setW, xi_setR, xi_setW, xr_setI, xr_setW, xww_setI, xww_setR, xi_setI, xr_setR, xww_setW, xE_new, xsz_new, xsl_new, hb, f3, f4, f5, xsub]; done) | (simp [xE_setI, xsz_setI, xsl_setI, xtag_setI, xown_setI, xlen_setI, xE_setR, xsz_setR, xsl_setR, xtag_setR, xown_setR, xlen_setR, xE_setW, xsz_setW, xsl_setW, xtag_setW, xown_setW, xlen_setW, xi_setR, xi_setW, xr_setI, xr_setW, xww_setI, xww_setR, xi_setI, xr_setR, xww_setW, xE_new, xsz_new, xsl_new, hb, f3, f4, f5] <;> rfl)) ?_
  refine xw_aload_n (pc := 24) dX9_anew_24 0 rfl ?_
  refine xw_getI (pc := 25) fd_X9_28 dX9_anew_25 (by first | assumption | (simp [xE_setI, xsz_setI, xsl_setI, xtag_setI, xown_setI, xlen_setI, xE_setR, xsz_setR, xsl_setR, xtag_setR, xown_setR, xlen_setR, xE_setW, xsz_setW, xsl_setW, xtag_setW, xown_setW, xlen_setW, xi_setR, xi_setW, xr_setI, xr_setW, xww_setI, xww_setR, xi_setI, xr_setR, xww_setW, xE_new, xsz_new, xsl_new, hb, f3, f4, f5, xsub]; done) | (simp [xE_setI, xsz_setI, xsl_setI, xtag_setI, xown_setI, xlen_setI, xE_setR, xsz_setR, xsl_setR, xtag_setR, xown_setR, xlen_setR, xE_setW, xsz_setW, xsl_setW, xtag_setW, xown_setW, xlen_setW, xi_setR, xi_setW, xr_setI, xr_setW, xww_setI, xww_setR, xi_setI, xr_setR, xww_setW, xE_new, xsz_new, xsl_new, hb, f3, f4, f5] <;> rfl)) ?_
  refine xw_callU (pc := 28) (xr_I (as := [_, _, _, _, _, _]) ok_X9_init rfl (by decide) q1012 q1013 rfl rfl dX9_anew_28 rfl rfl (Nat.le_of_ble_eq_true rfl)) (SP_X9_init (o2 := o2) f1 (by rw [f2]; exact ho1) ho2) ?_
  refine xw_aret (pc := 31) (.object "PolicyNotation$Rule") dX9_anew_31 rfl ?_
  exact ⟨rfl, by simp only [f4, f5]⟩

theorem SP_X8_anew {d : Nat} {g : xG} {b o1 o2 : Nat} (hb : xtag g b = 6) (ho1 : o1 ≠ 0) (ho2 : o2 ≠ 0) : XM M_X8_anew (d + 6) [.ref b] g (xOne (some (.ref (xsz g))) (xsetI (xsetI (xRI (xNew g (xBlank 6 o1 9) 9) (xsz g) o2 (xi g b 0) (xi g b 1) (xi g b 2) (xi g b 3) (xi g b 4)) (xsz g) 7 (xi g b 7)) (xsz g) 8 (xi g b 8))) := by
  have hlb : b < xsz g := xlt (by rw [hb]; decide)
  have hnb : b ≠ xsz g := Nat.ne_of_lt hlb
  have f1 : xtag (xNew g (xBlank 6 o1 9) 9) (xsz g) = 6 := by rw [xtag_newS rfl]; rfl
  have f2 : xown (xNew g (xBlank 6 o1 9) 9) (xsz g) = o1 := by rw [xown_newS rfl]; rfl
  have f3 : xtag (xNew g (xBlank 6 o1 9) 9) b = xtag g b := xtag_new hlb
  have f4 : ∀ j, xi (xNew g (xBlank 6 o1 9) 9) b j = xi g b j := fun j => xi_new hlb
  have f5 : ∀ j, xr (xNew g (xBlank 6 o1 9) 9) b j = xr g b j := fun j => xr_new hlb
  refine xm_of (by decide +kernel) (Nat.le_of_ble_eq_true rfl) ?_
  show XW _ _ 0 [(0, _)] [] _ _
  refine xw_new (t := 6) (pc := 0) o1 dX8_anew_0 rfl (by decide) (by first | decide | assumption | omega) q925 q926 q124 ?_
  refine xw_at (a := (xsz g)) (by rfl) ?_
  refine xw_dup (pc := 3) dX8_anew_3 rfl ?_
  refine xw_aload_n (pc := 4) dX8_anew_4 0 rfl ?_
  refine xw_callU (pc := 5) (xr_I (as := [_]) ok_X8_init rfl (by decide) q927 q928 rfl rfl dX8_anew_5 rfl rfl (Nat.le_of_ble_eq_true rfl)) (SP_X8_init (o2 := o2) f1 (by rw [f2]; exact ho1) ho2 (by rw [f3]; exact hb) hnb) ?_
  refine xw_aret (pc := 8) (.object "PolicyNotation$Rule") dX8_anew_8 rfl ?_
  exact ⟨rfl, by simp only [f4]⟩

theorem SP_X17_init {d : Nat} {g : xG} {a : Nat} {e : Option Nat} {x y z : Int32} (ht : xtag g a = 14) (ho : xown g a ≠ 0) : XM M_X17_init (d + 1) [.ref a, .int x, .int y, .int z, xref e] g (xOne none (xsetR (xsetI (xsetI (xsetI g a 0 x) a 1 y) a 2 z) a 3 e)) := by
  refine xm_of (by decide +kernel) (by cases e <;> exact Nat.le_of_ble_eq_true rfl) ?_
  rw [show lv_args 0 [.ref a, .int x, .int y, .int z, xref e] = [(0, .ref a), (1, .int x), (2, .int y), (3, .int z), (4, xref e)] from by cases e <;> rfl]
  refine xw_aload_n (pc := 0) dX17_init_0 0 rfl ?_
  refine xw_objInit (pc := 1) dX17_init_1 q1635 (Nat.le_of_ble_eq_true rfl) ?_
  refine xw_aload_n (pc := 4) dX17_init_4 0 rfl ?_
  refine xw_iload_n (pc := 5) dX17_init_5 1 rfl ?_
  refine xw_putI (pc := 6) fd_X17_7 (xfin_of (by decide) (by decide +kernel)) dX17_init_6 (by first | assumption | (simp [xE_setI, xsz_setI, xsl_setI, xtag_setI, xown_setI, xlen_setI, xE_setR, xsz_setR, xsl_setR, xtag_setR, xown_setR, xlen_setR, xE_setW, xsz_setW, xsl_setW, xtag_setW, xown_setW, xlen_setW, xi_setR, xi_setW, xr_setI, xr_setW, xww_setI, xww_setR, xi_setI, xr_setR, xww_setW, xE_new, xsz_new, xsl_new, ht, xsub]; done) | (simp [xE_setI, xsz_setI, xsl_setI, xtag_setI, xown_setI, xlen_setI, xE_setR, xsz_setR, xsl_setR, xtag_setR, xown_setR, xlen_setR, xE_setW, xsz_setW, xsl_setW, xtag_setW, xown_setW, xlen_setW, xi_setR, xi_setW, xr_setI, xr_setW, xww_setI, xww_setR, xi_setI, xr_setR, xww_setW, xE_new, xsz_new, xsl_new, ht] <;> rfl)) (by first | assumption | (simp [xE_setI, xsz_setI, xsl_setI, xtag_setI, xown_setI, xlen_setI, xE_setR, xsz_setR, xsl_setR, xtag_setR, xown_setR, xlen_setR, xE_setW, xsz_setW, xsl_setW, xtag_setW, xown_setW, xlen_setW, xi_setR, xi_setW, xr_setI, xr_setW, xww_setI, xww_setR, xi_setI, xr_setR, xww_setW, xE_new, xsz_new, xsl_new, ht]; done) | (simp [xE_setI, xsz_setI, xsl_setI, xtag_setI, xown_setI, xlen_setI, xE_setR, xsz_setR, xsl_setR, xtag_setR, xown_setR, xlen_setR, xE_setW, xsz_setW, xsl_setW, xtag_setW, xown_setW, xlen_setW, xi_setR, xi_setW, xr_setI, xr_setW, xww_setI, xww_setR, xi_setI, xr_setR, xww_setW, xE_new, xsz_new, xsl_new, ht]; assumption)) ?_
  refine xw_aload_n (pc := 9) dX17_init_9 0 rfl ?_
  refine xw_iload_n (pc := 10) dX17_init_10 2 rfl ?_
  refine xw_putI (pc := 11) fd_X17_13 (xfin_of (by decide) (by decide +kernel)) dX17_init_11 (by first | assumption | (simp [xE_setI, xsz_setI, xsl_setI, xtag_setI, xown_setI, xlen_setI, xE_setR, xsz_setR, xsl_setR, xtag_setR, xown_setR, xlen_setR, xE_setW, xsz_setW, xsl_setW, xtag_setW, xown_setW, xlen_setW, xi_setR, xi_setW, xr_setI, xr_setW, xww_setI, xww_setR, xi_setI, xr_setR, xww_setW, xE_new, xsz_new, xsl_new, ht, xsub]; done) | (simp [xE_setI, xsz_setI, xsl_setI, xtag_setI, xown_setI, xlen_setI, xE_setR, xsz_setR, xsl_setR, xtag_setR, xown_setR, xlen_setR, xE_setW, xsz_setW, xsl_setW, xtag_setW, xown_setW, xlen_setW, xi_setR, xi_setW, xr_setI, xr_setW, xww_setI, xww_setR, xi_setI, xr_setR, xww_setW, xE_new, xsz_new, xsl_new, ht] <;> rfl)) (by first | assumption | (simp [xE_setI, xsz_setI, xsl_setI, xtag_setI, xown_setI, xlen_setI, xE_setR, xsz_setR, xsl_setR, xtag_setR, xown_setR, xlen_setR, xE_setW, xsz_setW, xsl_setW, xtag_setW, xown_setW, xlen_setW, xi_setR, xi_setW, xr_setI, xr_setW, xww_setI, xww_setR, xi_setI, xr_setR, xww_setW, xE_new, xsz_new, xsl_new, ht]; done) | (simp [xE_setI, xsz_setI, xsl_setI, xtag_setI, xown_setI, xlen_setI, xE_setR, xsz_setR, xsl_setR, xtag_setR, xown_setR, xlen_setR, xE_setW, xsz_setW, xsl_setW, xtag_setW, xown_setW, xlen_setW, xi_setR, xi_setW, xr_setI, xr_setW, xww_setI, xww_setR, xi_setI, xr_setR, xww_setW, xE_new, xsz_new, xsl_new, ht]; assumption)) ?_
  refine xw_aload_n (pc := 14) dX17_init_14 0 rfl ?_
  refine xw_iload_n (pc := 15) dX17_init_15 3 rfl ?_
  refine xw_putI (pc := 16) fd_X17_16 (xfin_of (by decide) (by decide +kernel)) dX17_init_16 (by first | assumption | (simp [xE_setI, xsz_setI, xsl_setI, xtag_setI, xown_setI, xlen_setI, xE_setR, xsz_setR, xsl_setR, xtag_setR, xown_setR, xlen_setR, xE_setW, xsz_setW, xsl_setW, xtag_setW, xown_setW, xlen_setW, xi_setR, xi_setW, xr_setI, xr_setW, xww_setI, xww_setR, xi_setI, xr_setR, xww_setW, xE_new, xsz_new, xsl_new, ht, xsub]; done) | (simp [xE_setI, xsz_setI, xsl_setI, xtag_setI, xown_setI, xlen_setI, xE_setR, xsz_setR, xsl_setR, xtag_setR, xown_setR, xlen_setR, xE_setW, xsz_setW, xsl_setW, xtag_setW, xown_setW, xlen_setW, xi_setR, xi_setW, xr_setI, xr_setW, xww_setI, xww_setR, xi_setI, xr_setR, xww_setW, xE_new, xsz_new, xsl_new, ht] <;> rfl)) (by first | assumption | (simp [xE_setI, xsz_setI, xsl_setI, xtag_setI, xown_setI, xlen_setI, xE_setR, xsz_setR, xsl_setR, xtag_setR, xown_setR, xlen_setR, xE_setW, xsz_setW, xsl_setW, xtag_setW, xown_setW, xlen_setW, xi_setR, xi_setW, xr_setI, xr_setW, xww_setI, xww_setR, xi_setI, xr_setR, xww_setW, xE_new, xsz_new, xsl_new, ht]; done) | (simp [xE_setI, xsz_setI, xsl_setI, xtag_setI, xown_setI, xlen_setI, xE_setR, xsz_setR, xsl_setR, xtag_setR, xown_setR, xlen_setR, xE_setW, xsz_setW, xsl_setW, xtag_setW, xown_setW, xlen_setW, xi_setR, xi_setW, xr_setI, xr_setW, xww_setI, xww_setR, xi_setI, xr_setR, xww_setW, xE_new, xsz_new, xsl_new, ht]; assumption)) ?_
  refine xw_aload_n (pc := 19) dX17_init_19 0 rfl ?_
  refine xw_aload (pc := 20) dX17_init_20 4 rfl ?_
  refine xw_putR (o := e) (pc := 22) fd_X17_19 (xfin_of (by decide) (by decide +kernel)) dX17_init_22 (by first | assumption | (simp [xE_setI, xsz_setI, xsl_setI, xtag_setI, xown_setI, xlen_setI, xE_setR, xsz_setR, xsl_setR, xtag_setR, xown_setR, xlen_setR, xE_setW, xsz_setW, xsl_setW, xtag_setW, xown_setW, xlen_setW, xi_setR, xi_setW, xr_setI, xr_setW, xww_setI, xww_setR, xi_setI, xr_setR, xww_setW, xE_new, xsz_new, xsl_new, ht, xsub]; done) | (simp [xE_setI, xsz_setI, xsl_setI, xtag_setI, xown_setI, xlen_setI, xE_setR, xsz_setR, xsl_setR, xtag_setR, xown_setR, xlen_setR, xE_setW, xsz_setW, xsl_setW, xtag_setW, xown_setW, xlen_setW, xi_setR, xi_setW, xr_setI, xr_setW, xww_setI, xww_setR, xi_setI, xr_setR, xww_setW, xE_new, xsz_new, xsl_new, ht] <;> rfl)) (by first | assumption | (simp [xE_setI, xsz_setI, xsl_setI, xtag_setI, xown_setI, xlen_setI, xE_setR, xsz_setR, xsl_setR, xtag_setR, xown_setR, xlen_setR, xE_setW, xsz_setW, xsl_setW, xtag_setW, xown_setW, xlen_setW, xi_setR, xi_setW, xr_setI, xr_setW, xww_setI, xww_setR, xi_setI, xr_setR, xww_setW, xE_new, xsz_new, xsl_new, ht]; done) | (simp [xE_setI, xsz_setI, xsl_setI, xtag_setI, xown_setI, xlen_setI, xE_setR, xsz_setR, xsl_setR, xtag_setR, xown_setR, xlen_setR, xE_setW, xsz_setW, xsl_setW, xtag_setW, xown_setW, xlen_setW, xi_setR, xi_setW, xr_setI, xr_setW, xww_setI, xww_setR, xi_setI, xr_setR, xww_setW, xE_new, xsz_new, xsl_new, ht]; assumption)) rfl ?_
  refine xw_vret (pc := 25) dX17_init_25 rfl ?_
  exact ⟨rfl, rfl⟩

