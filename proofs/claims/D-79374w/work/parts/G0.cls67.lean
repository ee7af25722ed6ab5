/-! CLASS 67: the state; the notation, made -/
set_option maxRecDepth 100000
/-- the rows of floats -/
def xRw2 (g : xG) (x : Nat) (S : xMS) : Prop := ∃ rw, xr g x 7 = some rw ∧ xRwQ g rw (S 10) (S 11)
/-- all that isn't policies -/
def xOt2 (g : xG) (x : Nat) (S : xMS) : Prop := (xi g x 4 = S 0 7 ∧ xi g x 5 = S 0 8) ∧ xSh g x S ∧ xRw2 g x S ∧ (∃ tb ln ch, xr g x 8 = some tb ∧ xBd g 11 tb ln ch ∧ ln ≤ 60 ∧ S 0 22 = nI ln ∧ ∀ j, j < ln → S 12 j = nI (ch j) ∧ ch j < 65536) ∧ (xi g x 9 = S 0 25 ∧ (S 0 25 = -1 ∨ ∃ f, f ≤ 60 ∧ S 0 25 = nI f)) ∧ ∃ eb t, xr g x 10 = some eb ∧ xBT g 12 eb t ∧ t.length ≤ 200 ∧ S 0 33 = nI t.length ∧ ∀ j, j < t.length → S 13 j = nI (t.getD j 0)
/-- THE STATE -/
def xST (g : xG) (x : Nat) (S : xMS) : Prop := S 0 14 = -1 ∧ ∃ p lk fa ka la Z n rr ww dq da h ps sv, xMn g x p lk fa ka la Z S n rr ww ∧ xPst g x dq da h S ps ∧ xSvd g x S sv ∧ (p :: (sv.toList ++ ps)).Nodup ∧ xOt2 g x S
/-- the constants of the classes -/
def xKs (g : xG) : Prop := xCn g ∧ xEmp g ∧ xSC g ∧ xDig g
theorem xEmp.fr {g g' : xG} {N : Nat} {O : Nat → Prop} (h : xEmp g) (F : xFr O N g g') : xEmp g' := by
  obtain ⟨e1, e2, e3⟩ := h
  have he : (xE g).2.2.1 4 < xsz g := xlt (by rw [e1]; decide)
  exact ⟨by rw [F.e, F.tag he]; exact e1, by rw [F.e, F.len he]; exact e2, by rw [F.e, F.own he]; exact e3⟩
theorem xKs.fr {g g' : xG} {N : Nat} {O : Nat → Prop} (h : xKs g) (F : xFr O N g g') (h0 : ¬ O 0) : xKs g' := ⟨h.1.fr F h0, h.2.1.fr F, h.2.2.1.fr F h0, h.2.2.2.fr F h0⟩
def o1x (a : Nat) : Nat → Prop := fun o => o = 1 ∨ o = a
def oX3 : Nat → Prop := fun o => o = 1 ∨ o = 11 ∨ o = 12
def oX2 : Nat → Prop := fun o => o = 1 ∨ o = 6 ∨ o = 11 ∨ o = 12
def oX1 : Nat → Prop := fun o => o = 1 ∨ o = 6 ∨ o = 7 ∨ o = 11 ∨ o = 12

theorem SP_X1_init {d : Nat} {g : xG} {x : Nat} (X0 : xX1 g x (fun _ => none) (fun _ => 0)) (hK : xKs g) : XM M_X1_init (d + 9) [.ref x] g (xVoid (fun g' => xST g' x (iS iF 6 3) ∧ xKs g' ∧ xFr (fun o => o = 6 ∨ o = 7 ∨ o = 11 ∨ o = 12 ∨ o = 1 ∨ oP (xsz g) o) 300 g g')) := by
  have x0 := X0.lt
  have tg0 : xtag g x = 1 := X0.1
  have on0 : xown g x ≠ 0 := by rw [X0.2.1]; decide
  refine xm_of (by decide +kernel) (Nat.le_of_ble_eq_true rfl) ?_
  show XW _ _ 0 [(0, _)] [] _ _
  refine xw_aload_n (pc := 0) dX1_init_0 0 rfl ?_
  refine xw_objInit (pc := 1) dX1_init_1 q148 (Nat.le_of_ble_eq_true rfl) ?_
  refine xw_aload_n (pc := 4) dX1_init_4 0 rfl ?_
  refine xw_new (t := 2) (pc := 5) (1000 * xsz g) dX1_init_5 rfl (by decide) (by first | decide | assumption | omega) q151 q152 q93 ?_
  refine xw_at (a := (xsz g)) (by rfl) ?_
  refine xw_dup (pc := 8) dX1_init_8 rfl ?_
  refine xw_callH (pc := 9) (xr_I (as := []) ok_X2_init rfl (by decide) q153 q154 rfl rfl dX1_init_9 rfl rfl (Nat.le_of_ble_eq_true rfl)) (SP_X2_init (d := d) (q := xsz g) (by have := X0.lt; omega) (xtag_newS rfl) (xown_newS rfl)) ?_
  intro g9 hc9 hm9
  obtain ⟨Z, hP1, hF1⟩ := hc9
  have FN1 : xFr (oP (xsz g)) 4 g (xNew g (xBlank 2 (1000 * xsz g) 3) 3) := (xFr.rf (n := 0)).nw.sub (fun _ h => h) (by omega)
  have Fc1 : xFr (oP (xsz g)) 70 g g9 := (FN1.tr hF1).sub (fun _ h => h) (by omega)
  have Y1 := X0.fr Fc1 (by unfold oP; omega)
  have tp1 : xtag g9 x = 1 := Y1.1
  have op1 : xown g9 x ≠ 0 := by rw [Y1.2.1]; decide
  refine xw_putR (o := (some (xsz g))) (pc := 12) fd_X1_10 (xfin_of (by decide) (by decide +kernel)) dX1_init_12 (by first | assumption | (simp [-List.getD_eq_getElem?_getD, xE_setI, xsz_setI, xsl_setI, xtag_setI, xown_setI, xlen_setI, xE_setR, xsz_setR, xsl_setR, xtag_setR, xown_setR, xlen_setR, xE_setW, xsz_setW, xsl_setW, xtag_setW, xown_setW, xlen_setW, xi_setR, xi_setW, xr_setI, xr_setW, xww_setI, xww_setR, xi_setI, xr_setR, xww_setW, xE_new, xsz_new, xsl_new, tg0, on0, tp1, op1, xsub]; done) | (simp [-List.getD_eq_getElem?_getD, xE_setI, xsz_setI, xsl_setI, xtag_setI, xown_setI, xlen_setI, xE_setR, xsz_setR, xsl_setR, xtag_setR, xown_setR, xlen_setR, xE_setW, xsz_setW, xsl_setW, xtag_setW, xown_setW, xlen_setW, xi_setR, xi_setW, xr_setI, xr_setW, xww_setI, xww_setR, xi_setI, xr_setR, xww_setW, xE_new, xsz_new, xsl_new, tg0, on0, tp1, op1] <;> rfl)) (by first | assumption | (simp [-List.getD_eq_getElem?_getD, xE_setI, xsz_setI, xsl_setI, xtag_setI, xown_setI, xlen_setI, xE_setR, xsz_setR, xsl_setR, xtag_setR, xown_setR, xlen_setR, xE_setW, xsz_setW, xsl_setW, xtag_setW, xown_setW, xlen_setW, xi_setR, xi_setW, xr_setI, xr_setW, xww_setI, xww_setR, xi_setI, xr_setR, xww_setW, xE_new, xsz_new, xsl_new, tg0, on0, tp1, op1]; done) | (simp [-List.getD_eq_getElem?_getD, xE_setI, xsz_setI, xsl_setI, xtag_setI, xown_setI, xlen_setI, xE_setR, xsz_setR, xsl_setR, xtag_setR, xown_setR, xlen_setR, xE_setW, xsz_setW, xsl_setW, xtag_setW, xown_setW, xlen_setW, xi_setR, xi_setW, xr_setI, xr_setW, xww_setI, xww_setR, xi_setI, xr_setR, xww_setW, xE_new, xsz_new, xsl_new, tg0, on0, tp1, op1]; assumption)) rfl ?_
  have Fp1 : xFr (oEq 1) 0 g9 (xsetR g9 x 0 (some (xsz g))) := (xFr.rf (O := oEq 1) (n := 0)).sr (Or.inr Y1.2.1)
  have X1 := Y1.putR (j := 0) (v := some (xsz g))
  have F1 : xFr (fun o => o = 1 ∨ oP (xsz g) o) 70 g (xsetR g9 x 0 (some (xsz g))) := ((Fc1.sub (O' := (fun o => o = 1 ∨ oP (xsz g) o)) (fun o h => Or.inr h) (Nat.le_refl _)).tr (Fp1.sub (m := 0) (O' := (fun o => o = 1 ∨ oP (xsz g) o)) (fun o h => by cases h; exact (Or.inl rfl)) (Nat.le_refl _))).sub (fun _ h => h) (by omega)
  have k1 := hP1.fr Fp1 (fun o h1 h2 => by unfold oP at h1; unfold oEq at h2; have := X0.lt; omega) (by unfold oEq; omega)
  generalize (xsetR g9 x 0 (some (xsz g))) = h1 at X1 F1 k1 ⊢
  have tg1 : xtag h1 x = 1 := X1.1
  have on1 : xown h1 x ≠ 0 := by rw [X1.2.1]; decide
  refine xw_aload_n (pc := 15) dX1_init_15 0 rfl ?_
  refine xw_new (t := 21) (pc := 16) 7 dX1_init_16 rfl (by decide) (by first | decide | assumption | omega) q607 q608 q116 ?_
  refine xw_at (a := (xsz h1)) (by rfl) ?_
  refine xw_dup (pc := 19) dX1_init_19 rfl ?_
  refine xw_callH (pc := 20) (xr_I (as := []) ok_J18_init rfl (by decide) q609 q610 rfl rfl dX1_init_20 rfl rfl (Nat.le_of_ble_eq_true rfl)) (SP_J18_init (d := d + 6) (o := 7) (a := xsz h1) (xtag_newS rfl) (xown_newS rfl) (xi_newS rfl) (xi_newS rfl) (by decide)) ?_
  intro g20 hc20 hm20
  generalize hda : xsz (xNew h1 (xBlank 21 7 3) 3) = da at hc20
  obtain ⟨hD2, hF2⟩ := hc20
  have FN2 : xFr (oEq 7) 4 h1 (xNew h1 (xBlank 21 7 3) 3) := (xFr.rf (n := 0)).nw.sub (fun _ h => h) (by omega)
  have Fc2 : xFr (oEq 7) 30 h1 g20 := (FN2.tr hF2).sub (fun _ h => h) (by omega)
  have Y2 := X1.fr Fc2 (by unfold oEq; omega)
  have tp2 : xtag g20 x = 1 := Y2.1
  have op2 : xown g20 x ≠ 0 := by rw [Y2.2.1]; decide
  refine xw_putR (o := (some (xsz h1))) (pc := 23) fd_X1_19 (xfin_of (by decide) (by decide +kernel)) dX1_init_23 (by first | assumption | (simp [-List.getD_eq_getElem?_getD, xE_setI, xsz_setI, xsl_setI, xtag_setI, xown_setI, xlen_setI, xE_setR, xsz_setR, xsl_setR, xtag_setR, xown_setR, xlen_setR, xE_setW, xsz_setW, xsl_setW, xtag_setW, xown_setW, xlen_setW, xi_setR, xi_setW, xr_setI, xr_setW, xww_setI, xww_setR, xi_setI, xr_setR, xww_setW, xE_new, xsz_new, xsl_new, tg0, on0, tp1, op1, tg1, on1, tp2, op2, xsub]; done) | (simp [-List.getD_eq_getElem?_getD, xE_setI, xsz_setI, xsl_setI, xtag_setI, xown_setI, xlen_setI, xE_setR, xsz_setR, xsl_setR, xtag_setR, xown_setR, xlen_setR, xE_setW, xsz_setW, xsl_setW, xtag_setW, xown_setW, xlen_setW, xi_setR, xi_setW, xr_setI, xr_setW, xww_setI, xww_setR, xi_setI, xr_setR, xww_setW, xE_new, xsz_new, xsl_new, tg0, on0, tp1, op1, tg1, on1, tp2, op2] <;> rfl)) (by first | assumption | (simp [-List.getD_eq_getElem?_getD, xE_setI, xsz_setI, xsl_setI, xtag_setI, xown_setI, xlen_setI, xE_setR, xsz_setR, xsl_setR, xtag_setR, xown_setR, xlen_setR, xE_setW, xsz_setW, xsl_setW, xtag_setW, xown_setW, xlen_setW, xi_setR, xi_setW, xr_setI, xr_setW, xww_setI, xww_setR, xi_setI, xr_setR, xww_setW, xE_new, xsz_new, xsl_new, tg0, on0, tp1, op1, tg1, on1, tp2, op2]; done) | (simp [-List.getD_eq_getElem?_getD, xE_setI, xsz_setI, xsl_setI, xtag_setI, xown_setI, xlen_setI, xE_setR, xsz_setR, xsl_setR, xtag_setR, xown_setR, xlen_setR, xE_setW, xsz_setW, xsl_setW, xtag_setW, xown_setW, xlen_setW, xi_setR, xi_setW, xr_setI, xr_setW, xww_setI, xww_setR, xi_setI, xr_setR, xww_setW, xE_new, xsz_new, xsl_new, tg0, on0, tp1, op1, tg1, on1, tp2, op2]; assumption)) rfl ?_
  have Fp2 : xFr (oEq 1) 0 g20 (xsetR g20 x 2 (some (xsz h1))) := (xFr.rf (O := oEq 1) (n := 0)).sr (Or.inr Y2.2.1)
  have X2 := Y2.putR (j := 2) (v := some (xsz h1))
  have F2 : xFr (o1x 7) 30 h1 (xsetR g20 x 2 (some (xsz h1))) := ((Fc2.sub (O' := (o1x 7)) (fun o h => Or.inr h) (Nat.le_refl _)).tr (Fp2.sub (m := 0) (O' := (o1x 7)) (fun o h => by cases h; exact (Or.inl rfl)) (Nat.le_refl _))).sub (fun _ h => h) (by omega)
  have k2 := hD2.fr Fp2 (by unfold oEq; omega)
  generalize (xsetR g20 x 2 (some (xsz h1))) = h2 at X2 F2 k2 ⊢
  have tg2 : xtag h2 x = 1 := X2.1
  have on2 : xown h2 x ≠ 0 := by rw [X2.2.1]; decide
  refine xw_aload_n (pc := 26) dX1_init_26 0 rfl ?_
  refine xw_new (t := 4) (pc := 27) 6 dX1_init_27 rfl (by decide) (by first | decide | assumption | omega) q624 q625 q117 ?_
  refine xw_at (a := (xsz h2)) (by rfl) ?_
  refine xw_dup (pc := 30) dX1_init_30 rfl ?_
  refine xw_aload_n (pc := 31) dX1_init_31 0 rfl ?_
  refine xw_callH (pc := 32) (xr_IN (as := [_]) ok_X5_init rfl (by decide) q626 q627 rfl rfl dX1_init_32 rfl rfl (Nat.le_of_ble_eq_true rfl)) (SP_X5_init (d := d + 7) (x := x) (⟨xtag_newS rfl, xown_newS rfl, fun j => xr_newS rfl⟩ : xLk1 (xNew h2 (xBlank 4 6 8) 8) (xsz h2) (fun _ => none))) ?_
  intro g32 hc32 hm32
  obtain ⟨fa, ka, la, hL3, hF3⟩ := hc32
  have FN3 : xFr (oEq 6) 9 h2 (xNew h2 (xBlank 4 6 8) 8) := (xFr.rf (n := 0)).nw.sub (fun _ h => h) (by omega)
  have Fc3 : xFr (oEq 6) 60 h2 g32 := (FN3.tr hF3).sub (fun _ h => h) (by omega)
  have Y3 := X2.fr Fc3 (by unfold oEq; omega)
  have tp3 : xtag g32 x = 1 := Y3.1
  have op3 : xown g32 x ≠ 0 := by rw [Y3.2.1]; decide
  refine xw_putR (o := (some (xsz h2))) (pc := 35) fd_X1_28 (xfin_of (by decide) (by decide +kernel)) dX1_init_35 (by first | assumption | (simp [-List.getD_eq_getElem?_getD, xE_setI, xsz_setI, xsl_setI, xtag_setI, xown_setI, xlen_setI, xE_setR, xsz_setR, xsl_setR, xtag_setR, xown_setR, xlen_setR, xE_setW, xsz_setW, xsl_setW, xtag_setW, xown_setW, xlen_setW, xi_setR, xi_setW, xr_setI, xr_setW, xww_setI, xww_setR, xi_setI, xr_setR, xww_setW, xE_new, xsz_new, xsl_new, tg0, on0, tp1, op1, tg1, on1, tp2, op2, tg2, on2, tp3, op3, xsub]; done) | (simp [-List.getD_eq_getElem?_getD, xE_setI, xsz_setI, xsl_setI, xtag_setI, xown_setI, xlen_setI, xE_setR, xsz_setR, xsl_setR, xtag_setR, xown_setR, xlen_setR, xE_setW, xsz_setW, xsl_setW, xtag_setW, xown_setW, xlen_setW, xi_setR, xi_setW, xr_setI, xr_setW, xww_setI, xww_setR, xi_setI, xr_setR, xww_setW, xE_new, xsz_new, xsl_new, tg0, on0, tp1, op1, tg1, on1, tp2, op2, tg2, on2, tp3, op3] <;> rfl)) (by first | assumption | (simp [-List.getD_eq_getElem?_getD, xE_setI, xsz_setI, xsl_setI, xtag_setI, xown_setI, xlen_setI, xE_setR, xsz_setR, xsl_setR, xtag_setR, xown_setR, xlen_setR, xE_setW, xsz_setW, xsl_setW, xtag_setW, xown_setW, xlen_setW, xi_setR, xi_setW, xr_setI, xr_setW, xww_setI, xww_setR, xi_setI, xr_setR, xww_setW, xE_new, xsz_new, xsl_new, tg0, on0, tp1, op1, tg1, on1, tp2, op2, tg2, on2, tp3, op3]; done) | (simp [-List.getD_eq_getElem?_getD, xE_setI, xsz_setI, xsl_setI, xtag_setI, xown_setI, xlen_setI, xE_setR, xsz_setR, xsl_setR, xtag_setR, xown_setR, xlen_setR, xE_setW, xsz_setW, xsl_setW, xtag_setW, xown_setW, xlen_setW, xi_setR, xi_setW, xr_setI, xr_setW, xww_setI, xww_setR, xi_setI, xr_setR, xww_setW, xE_new, xsz_new, xsl_new, tg0, on0, tp1, op1, tg1, on1, tp2, op2, tg2, on2, tp3, op3]; assumption)) rfl ?_
  have Fp3 : xFr (oEq 1) 0 g32 (xsetR g32 x 3 (some (xsz h2))) := (xFr.rf (O := oEq 1) (n := 0)).sr (Or.inr Y3.2.1)
  have X3 := Y3.putR (j := 3) (v := some (xsz h2))
  have F3 : xFr (o1x 6) 60 h2 (xsetR g32 x 3 (some (xsz h2))) := ((Fc3.sub (O' := (o1x 6)) (fun o h => Or.inr h) (Nat.le_refl _)).tr (Fp3.sub (m := 0) (O' := (o1x 6)) (fun o h => by cases h; exact (Or.inl rfl)) (Nat.le_refl _))).sub (fun _ h => h) (by omega)
  have hll : xsz h2 < xsz g32 := xlt (by rw [hL3.1.1]; decide)
  have k3 := hL3.fr Fp3 (fun j _ => Fp3.r' hll (by rw [hL3.2.2.1.1]; unfold oEq; omega))
  generalize (xsetR g32 x 3 (some (xsz h2))) = h3 at X3 F3 k3 ⊢
  have tg3 : xtag h3 x = 1 := X3.1
  have on3 : xown h3 x ≠ 0 := by rw [X3.2.1]; decide
  refine xw_aload_n (pc := 38) dX1_init_38 0 rfl ?_
  refine xw_bipush (v := nI 6) (pc := 39) dX1_init_39 (by decide +kernel) ?_
  refine xw_anew (q := 8) (n := 6) (pc := 41) 8 dX1_init_41 (by decide) (by decide) rfl q656 (by decide) (by first | decide | assumption | omega) rfl (by omega) ?_
  refine xw_at (a := (xsz h3)) (by rfl) ?_
  have Fc4 : xFr oNo 7 h3 (xNew h3 (xBlank (101 + 8) 8 6) 6) := (xFr.rf (n := 0)).nw.sub (fun _ h => h) (by omega)
  have Y4 := X3.fr Fc4 (fun h => h)
  have tp4 : xtag (xNew h3 (xBlank (101 + 8) 8 6) 6) x = 1 := Y4.1
  have op4 : xown (xNew h3 (xBlank (101 + 8) 8 6) 6) x ≠ 0 := by rw [Y4.2.1]; decide
  have at4 : xtag (xNew h3 (xBlank (101 + 8) 8 6) 6) (xsz h3) = (101 + 8) := xtag_newS rfl
  have ao4 : xown (xNew h3 (xBlank (101 + 8) 8 6) 6) (xsz h3) = 8 := xown_newS rfl
  have al4 : xlen (xNew h3 (xBlank (101 + 8) 8 6) 6) (xsz h3) = 6 := xlen_newS rfl
  have ar4 : ∀ j, xr (xNew h3 (xBlank (101 + 8) 8 6) 6) (xsz h3) j = none := fun j => xr_newS rfl
  refine xw_putR (o := (some (xsz h3))) (pc := 44) fd_X1_34 (xfin_of (by decide) (by decide +kernel)) dX1_init_44 (by first | assumption | (simp [-List.getD_eq_getElem?_getD, xE_setI, xsz_setI, xsl_setI, xtag_setI, xown_setI, xlen_setI, xE_setR, xsz_setR, xsl_setR, xtag_setR, xown_setR, xlen_setR, xE_setW, xsz_setW, xsl_setW, xtag_setW, xown_setW, xlen_setW, xi_setR, xi_setW, xr_setI, xr_setW, xww_setI, xww_setR, xi_setI, xr_setR, xww_setW, xE_new, xsz_new, xsl_new, tg0, on0, tp1, op1, tg1, on1, tp2, op2, tg2, on2, tp3, op3, tg3, on3, tp4, op4, xsub]; done) | (simp [-List.getD_eq_getElem?_getD, xE_setI, xsz_setI, xsl_setI, xtag_setI, xown_setI, xlen_setI, xE_setR, xsz_setR, xsl_setR, xtag_setR, xown_setR, xlen_setR, xE_setW, xsz_setW, xsl_setW, xtag_setW, xown_setW, xlen_setW, xi_setR, xi_setW, xr_setI, xr_setW, xww_setI, xww_setR, xi_setI, xr_setR, xww_setW, xE_new, xsz_new, xsl_new, tg0, on0, tp1, op1, tg1, on1, tp2, op2, tg2, on2, tp3, op3, tg3, on3, tp4, op4] <;> rfl)) (by first | assumption | (simp [-List.getD_eq_getElem?_getD, xE_setI, xsz_setI, xsl_setI, xtag_setI, xown_setI, xlen_setI, xE_setR, xsz_setR, xsl_setR, xtag_setR, xown_setR, xlen_setR, xE_setW, xsz_setW, xsl_setW, xtag_setW, xown_setW, xlen_setW, xi_setR, xi_setW, xr_setI, xr_setW, xww_setI, xww_setR, xi_setI, xr_setR, xww_setW, xE_new, xsz_new, xsl_new, tg0, on0, tp1, op1, tg1, on1, tp2, op2, tg2, on2, tp3, op3, tg3, on3, tp4, op4]; done) | (simp [-List.getD_eq_getElem?_getD, xE_setI, xsz_setI, xsl_setI, xtag_setI, xown_setI, xlen_setI, xE_setR, xsz_setR, xsl_setR, xtag_setR, xown_setR, xlen_setR, xE_setW, xsz_setW, xsl_setW, xtag_setW, xown_setW, xlen_setW, xi_setR, xi_setW, xr_setI, xr_setW, xww_setI, xww_setR, xi_setI, xr_setR, xww_setW, xE_new, xsz_new, xsl_new, tg0, on0, tp1, op1, tg1, on1, tp2, op2, tg2, on2, tp3, op3, tg3, on3, tp4, op4]; assumption)) rfl ?_
  have Fp4 : xFr (oEq 1) 0 (xNew h3 (xBlank (101 + 8) 8 6) 6) (xsetR (xNew h3 (xBlank (101 + 8) 8 6) 6) x 6 (some (xsz h3))) := (xFr.rf (O := oEq 1) (n := 0)).sr (Or.inr Y4.2.1)
  have X4 := Y4.putR (j := 6) (v := some (xsz h3))
  have F4 : xFr (oEq 1) 7 h3 (xsetR (xNew h3 (xBlank (101 + 8) 8 6) 6) x 6 (some (xsz h3))) := ((Fc4.sub (O' := (oEq 1)) (fun o h => h.elim) (Nat.le_refl _)).tr (Fp4.sub (m := 0) (O' := (oEq 1)) (fun o h => by cases h; exact rfl) (Nat.le_refl _))).sub (fun _ h => h) (by omega)
  have nxa4 : (xsz h3) ≠ x := Nat.ne_of_gt X3.lt
  have ec4 : xc (xsetR (xNew h3 (xBlank (101 + 8) 8 6) 6) x 6 (some (xsz h3))) (xsz h3) = xc (xNew h3 (xBlank (101 + 8) 8 6) 6) (xsz h3) := xc_setR nxa4
  have k4 : xtag (xsetR (xNew h3 (xBlank (101 + 8) 8 6) 6) x 6 (some (xsz h3))) (xsz h3) = (101 + 8) ∧ xown (xsetR (xNew h3 (xBlank (101 + 8) 8 6) 6) x 6 (some (xsz h3))) (xsz h3) = 8 ∧ xlen (xsetR (xNew h3 (xBlank (101 + 8) 8 6) 6) x 6 (some (xsz h3))) (xsz h3) = 6 ∧ ∀ j, xr (xsetR (xNew h3 (xBlank (101 + 8) 8 6) 6) x 6 (some (xsz h3))) (xsz h3) j = none := ⟨(xtag_of ec4).trans at4, (xown_of ec4).trans ao4, xlen_setR.trans al4, fun j => (xr_of ec4 j).trans (ar4 j)⟩
  generalize (xsetR (xNew h3 (xBlank (101 + 8) 8 6) 6) x 6 (some (xsz h3))) = h4 at X4 F4 k4 ⊢
  have tg4 : xtag h4 x = 1 := X4.1
  have on4 : xown h4 x ≠ 0 := by rw [X4.2.1]; decide
  refine xw_aload_n (pc := 47) dX1_init_47 0 rfl ?_
  refine xw_iconst (v := nI 3) (pc := 48) dX1_init_48 rfl ?_
  refine xw_anewA (n := 3) (pc := 49) 16 dX1_init_49 q658 (by first | decide | assumption | omega) rfl (by omega) ?_
  refine xw_at (a := (xsz h4)) (by rfl) ?_
  have Fc5 : xFr oNo 4 h4 (xNew h4 (xBlank 114 16 3) 3) := (xFr.rf (n := 0)).nw.sub (fun _ h => h) (by omega)
  have Y5 := X4.fr Fc5 (fun h => h)
  have tp5 : xtag (xNew h4 (xBlank 114 16 3) 3) x = 1 := Y5.1
  have op5 : xown (xNew h4 (xBlank 114 16 3) 3) x ≠ 0 := by rw [Y5.2.1]; decide
  have at5 : xtag (xNew h4 (xBlank 114 16 3) 3) (xsz h4) = 114 := xtag_newS rfl
  have ao5 : xown (xNew h4 (xBlank 114 16 3) 3) (xsz h4) = 16 := xown_newS rfl
  have al5 : xlen (xNew h4 (xBlank 114 16 3) 3) (xsz h4) = 3 := xlen_newS rfl
  have ar5 : ∀ j, xr (xNew h4 (xBlank 114 16 3) 3) (xsz h4) j = none := fun j => xr_newS rfl
  refine xw_putR (o := (some (xsz h4))) (pc := 52) fd_X1_40 (xfin_of (by decide) (by decide +kernel)) dX1_init_52 (by first | assumption | (simp [-List.getD_eq_getElem?_getD, xE_setI, xsz_setI, xsl_setI, xtag_setI, xown_setI, xlen_setI, xE_setR, xsz_setR, xsl_setR, xtag_setR, xown_setR, xlen_setR, xE_setW, xsz_setW, xsl_setW, xtag_setW, xown_setW, xlen_setW, xi_setR, xi_setW, xr_setI, xr_setW, xww_setI, xww_setR, xi_setI, xr_setR, xww_setW, xE_new, xsz_new, xsl_new, tg0, on0, tp1, op1, tg1, on1, tp2, op2, tg2, on2, tp3, op3, tg3, on3, tp4, op4, tg4, on4, tp5, op5, xsub]; done) | (simp [-List.getD_eq_getElem?_getD, xE_setI, xsz_setI, xsl_setI, xtag_setI, xown_setI, xlen_setI, xE_setR, xsz_setR, xsl_setR, xtag_setR, xown_setR, xlen_setR, xE_setW, xsz_setW, xsl_setW, xtag_setW, xown_setW, xlen_setW, xi_setR, xi_setW, xr_setI, xr_setW, xww_setI, xww_setR, xi_setI, xr_setR, xww_setW, xE_new, xsz_new, xsl_new, tg0, on0, tp1, op1, tg1, on1, tp2, op2, tg2, on2, tp3, op3, tg3, on3, tp4, op4, tg4, on4, tp5, op5] <;> rfl)) (by first | assumption | (simp [-List.getD_eq_getElem?_getD, xE_setI, xsz_setI, xsl_setI, xtag_setI, xown_setI, xlen_setI, xE_setR, xsz_setR, xsl_setR, xtag_setR, xown_setR, xlen_setR, xE_setW, xsz_setW, xsl_setW, xtag_setW, xown_setW, xlen_setW, xi_setR, xi_setW, xr_setI, xr_setW, xww_setI, xww_setR, xi_setI, xr_setR, xww_setW, xE_new, xsz_new, xsl_new, tg0, on0, tp1, op1, tg1, on1, tp2, op2, tg2, on2, tp3, op3, tg3, on3, tp4, op4, tg4, on4, tp5, op5]; done) | (simp [-List.getD_eq_getElem?_getD, xE_setI, xsz_setI, xsl_setI, xtag_setI, xown_setI, xlen_setI, xE_setR, xsz_setR, xsl_setR, xtag_setR, xown_setR, xlen_setR, xE_setW, xsz_setW, xsl_setW, xtag_setW, xown_setW, xlen_setW, xi_setR, xi_setW, xr_setI, xr_setW, xww_setI, xww_setR, xi_setI, xr_setR, xww_setW, xE_new, xsz_new, xsl_new, tg0, on0, tp1, op1, tg1, on1, tp2, op2, tg2, on2, tp3, op3, tg3, on3, tp4, op4, tg4, on4, tp5, op5]; assumption)) rfl ?_
  have Fp5 : xFr (oEq 1) 0 (xNew h4 (xBlank 114 16 3) 3) (xsetR (xNew h4 (xBlank 114 16 3) 3) x 7 (some (xsz h4))) := (xFr.rf (O := oEq 1) (n := 0)).sr (Or.inr Y5.2.1)
  have X5 := Y5.putR (j := 7) (v := some (xsz h4))
  have F5 : xFr (oEq 1) 4 h4 (xsetR (xNew h4 (xBlank 114 16 3) 3) x 7 (some (xsz h4))) := ((Fc5.sub (O' := (oEq 1)) (fun o h => h.elim) (Nat.le_refl _)).tr (Fp5.sub (m := 0) (O' := (oEq 1)) (fun o h => by cases h; exact rfl) (Nat.le_refl _))).sub (fun _ h => h) (by omega)
  have nxa5 : (xsz h4) ≠ x := Nat.ne_of_gt X4.lt
  have ec5 : xc (xsetR (xNew h4 (xBlank 114 16 3) 3) x 7 (some (xsz h4))) (xsz h4) = xc (xNew h4 (xBlank 114 16 3) 3) (xsz h4) := xc_setR nxa5
  have k5 : xtag (xsetR (xNew h4 (xBlank 114 16 3) 3) x 7 (some (xsz h4))) (xsz h4) = 114 ∧ xown (xsetR (xNew h4 (xBlank 114 16 3) 3) x 7 (some (xsz h4))) (xsz h4) = 16 ∧ xlen (xsetR (xNew h4 (xBlank 114 16 3) 3) x 7 (some (xsz h4))) (xsz h4) = 3 ∧ ∀ j, xr (xsetR (xNew h4 (xBlank 114 16 3) 3) x 7 (some (xsz h4))) (xsz h4) j = none := ⟨(xtag_of ec5).trans at5, (xown_of ec5).trans ao5, xlen_setR.trans al5, fun j => (xr_of ec5 j).trans (ar5 j)⟩
  generalize (xsetR (xNew h4 (xBlank 114 16 3) 3) x 7 (some (xsz h4))) = h5 at X5 F5 k5 ⊢
  have tg5 : xtag h5 x = 1 := X5.1
  have on5 : xown h5 x ≠ 0 := by rw [X5.2.1]; decide
  refine xw_aload_n (pc := 55) dX1_init_55 0 rfl ?_
  refine xw_new (t := 19) (pc := 56) 11 dX1_init_56 rfl (by decide) (by first | decide | assumption | omega) q660 q221 q102 ?_
  refine xw_at (a := (xsz h5)) (by rfl) ?_
  refine xw_dup (pc := 59) dX1_init_59 rfl ?_
  refine xw_callH (pc := 60) (xr_I (as := []) ok_J8_init rfl (by decide) q661 q223 rfl rfl dX1_init_60 rfl rfl (Nat.le_of_ble_eq_true rfl)) (SP_J8_init (d := d + 6) (o := 11) (b := xsz h5) (xtag_newS rfl) (xown_newS rfl) (by decide) (xi_newS rfl) (gD [])) ?_
  intro g60 hc60 hm60
  obtain ⟨hB6, -, hF6⟩ := hc60
  have FN6 : xFr (oEq 11) 5 h5 (xNew h5 (xBlank 19 11 4) 4) := (xFr.rf (n := 0)).nw.sub (fun _ h => h) (by omega)
  have Fc6 : xFr (oEq 11) 30 h5 g60 := (FN6.tr hF6).sub (fun _ h => h) (by omega)
  have Y6 := X5.fr Fc6 (by unfold oEq; omega)
  have tp6 : xtag g60 x = 1 := Y6.1
  have op6 : xown g60 x ≠ 0 := by rw [Y6.2.1]; decide
  refine xw_putR (o := (some (xsz h5))) (pc := 63) fd_X1_47 (xfin_of (by decide) (by decide +kernel)) dX1_init_63 (by first | assumption | (simp [-List.getD_eq_getElem?_getD, xE_setI, xsz_setI, xsl_setI, xtag_setI, xown_setI, xlen_setI, xE_setR, xsz_setR, xsl_setR, xtag_setR, xown_setR, xlen_setR, xE_setW, xsz_setW, xsl_setW, xtag_setW, xown_setW, xlen_setW, xi_setR, xi_setW, xr_setI, xr_setW, xww_setI, xww_setR, xi_setI, xr_setR, xww_setW, xE_new, xsz_new, xsl_new, tg0, on0, tp1, op1, tg1, on1, tp2, op2, tg2, on2, tp3, op3, tg3, on3, tp4, op4, tg4, on4, tp5, op5, tg5, on5, tp6, op6, xsub]; done) | (simp [-List.getD_eq_getElem?_getD, xE_setI, xsz_setI, xsl_setI, xtag_setI, xown_setI, xlen_setI, xE_setR, xsz_setR, xsl_setR, xtag_setR, xown_setR, xlen_setR, xE_setW, xsz_setW, xsl_setW, xtag_setW, xown_setW, xlen_setW, xi_setR, xi_setW, xr_setI, xr_setW, xww_setI, xww_setR, xi_setI, xr_setR, xww_setW, xE_new, xsz_new, xsl_new, tg0, on0, tp1, op1, tg1, on1, tp2, op2, tg2, on2, tp3, op3, tg3, on3, tp4, op4, tg4, on4, tp5, op5, tg5, on5, tp6, op6] <;> rfl)) (by first | assumption | (simp [-List.getD_eq_getElem?_getD, xE_setI, xsz_setI, xsl_setI, xtag_setI, xown_setI, xlen_setI, xE_setR, xsz_setR, xsl_setR, xtag_setR, xown_setR, xlen_setR, xE_setW, xsz_setW, xsl_setW, xtag_setW, xown_setW, xlen_setW, xi_setR, xi_setW, xr_setI, xr_setW, xww_setI, xww_setR, xi_setI, xr_setR, xww_setW, xE_new, xsz_new, xsl_new, tg0, on0, tp1, op1, tg1, on1, tp2, op2, tg2, on2, tp3, op3, tg3, on3, tp4, op4, tg4, on4, tp5, op5, tg5, on5, tp6, op6]; done) | (simp [-List.getD_eq_getElem?_getD, xE_setI, xsz_setI, xsl_setI, xtag_setI, xown_setI, xlen_setI, xE_setR, xsz_setR, xsl_setR, xtag_setR, xown_setR, xlen_setR, xE_setW, xsz_setW, xsl_setW, xtag_setW, xown_setW, xlen_setW, xi_setR, xi_setW, xr_setI, xr_setW, xww_setI, xww_setR, xi_setI, xr_setR, xww_setW, xE_new, xsz_new, xsl_new, tg0, on0, tp1, op1, tg1, on1, tp2, op2, tg2, on2, tp3, op3, tg3, on3, tp4, op4, tg4, on4, tp5, op5, tg5, on5, tp6, op6]; assumption)) rfl ?_
  have Fp6 : xFr (oEq 1) 0 g60 (xsetR g60 x 8 (some (xsz h5))) := (xFr.rf (O := oEq 1) (n := 0)).sr (Or.inr Y6.2.1)
  have X6 := Y6.putR (j := 8) (v := some (xsz h5))
  have F6 : xFr (o1x 11) 30 h5 (xsetR g60 x 8 (some (xsz h5))) := ((Fc6.sub (O' := (o1x 11)) (fun o h => Or.inr h) (Nat.le_refl _)).tr (Fp6.sub (m := 0) (O' := (o1x 11)) (fun o h => by cases h; exact (Or.inl rfl)) (Nat.le_refl _))).sub (fun _ h => h) (by omega)
  have k6 := hB6.fr Fp6 (by unfold oEq; omega)
  generalize (xsetR g60 x 8 (some (xsz h5))) = h6 at X6 F6 k6 ⊢
  have tg6 : xtag h6 x = 1 := X6.1
  have on6 : xown h6 x ≠ 0 := by rw [X6.2.1]; decide
  refine xw_aload_n (pc := 66) dX1_init_66 0 rfl ?_
  refine xw_iconst (v := -1) (pc := 67) dX1_init_67 (by decide +kernel) ?_
  refine xw_putI (pc := 68) fd_X1_51 (xfin_of (by decide) (by decide +kernel)) dX1_init_68 (by first | assumption | (simp [-List.getD_eq_getElem?_getD, xE_setI, xsz_setI, xsl_setI, xtag_setI, xown_setI, xlen_setI, xE_setR, xsz_setR, xsl_setR, xtag_setR, xown_setR, xlen_setR, xE_setW, xsz_setW, xsl_setW, xtag_setW, xown_setW, xlen_setW, xi_setR, xi_setW, xr_setI, xr_setW, xww_setI, xww_setR, xi_setI, xr_setR, xww_setW, xE_new, xsz_new, xsl_new, tg0, on0, tp1, op1, tg1, on1, tp2, op2, tg2, on2, tp3, op3, tg3, on3, tp4, op4, tg4, on4, tp5, op5, tg5, on5, tp6, op6, tg6, on6, xsub]; done) | (simp [-List.getD_eq_getElem?_getD, xE_setI, xsz_setI, xsl_setI, xtag_setI, xown_setI, xlen_setI, xE_setR, xsz_setR, xsl_setR, xtag_setR, xown_setR, xlen_setR, xE_setW, xsz_setW, xsl_setW, xtag_setW, xown_setW, xlen_setW, xi_setR, xi_setW, xr_setI, xr_setW, xww_setI, xww_setR, xi_setI, xr_setR, xww_setW, xE_new, xsz_new, xsl_new, tg0, on0, tp1, op1, tg1, on1, tp2, op2, tg2, on2, tp3, op3, tg3, on3, tp4, op4, tg4, on4, tp5, op5, tg5, on5, tp6, op6, tg6, on6] <;> rfl)) (by first | assumption | (simp [-List.getD_eq_getElem?_getD, xE_setI, xsz_setI, xsl_setI, xtag_setI, xown_setI, xlen_setI, xE_setR, xsz_setR, xsl_setR, xtag_setR, xown_setR, xlen_setR, xE_setW, xsz_setW, xsl_setW, xtag_setW, xown_setW, xlen_setW, xi_setR, xi_setW, xr_setI, xr_setW, xww_setI, xww_setR, xi_setI, xr_setR, xww_setW, xE_new, xsz_new, xsl_new, tg0, on0, tp1, op1, tg1, on1, tp2, op2, tg2, on2, tp3, op3, tg3, on3, tp4, op4, tg4, on4, tp5, op5, tg5, on5, tp6, op6, tg6, on6]; done) | (simp [-List.getD_eq_getElem?_getD, xE_setI, xsz_setI, xsl_setI, xtag_setI, xown_setI, xlen_setI, xE_setR, xsz_setR, xsl_setR, xtag_setR, xown_setR, xlen_setR, xE_setW, xsz_setW, xsl_setW, xtag_setW, xown_setW, xlen_setW, xi_setR, xi_setW, xr_setI, xr_setW, xww_setI, xww_setR, xi_setI, xr_setR, xww_setW, xE_new, xsz_new, xsl_new, tg0, on0, tp1, op1, tg1, on1, tp2, op2, tg2, on2, tp3, op3, tg3, on3, tp4, op4, tg4, on4, tp5, op5, tg5, on5, tp6, op6, tg6, on6]; assumption)) ?_
  have X7 := X6.putI (j := 9) (v := -1)
  have F7 : xFr (oEq 1) 0 h6 (xsetI h6 x 9 (-1)) := xFr.rf.si (Or.inr X6.2.1)
  generalize (xsetI h6 x 9 (-1)) = h7 at X7 F7 ⊢
  have tg7 : xtag h7 x = 1 := X7.1
  have on7 : xown h7 x ≠ 0 := by rw [X7.2.1]; decide
  refine xw_aload_n (pc := 71) dX1_init_71 0 rfl ?_
  refine xw_new (t := 19) (pc := 72) 12 dX1_init_72 rfl (by decide) (by first | decide | assumption | omega) q660 q221 q102 ?_
  refine xw_at (a := (xsz h7)) (by rfl) ?_
  refine xw_dup (pc := 75) dX1_init_75 rfl ?_
  refine xw_callH (pc := 76) (xr_I (as := []) ok_J8_init rfl (by decide) q661 q223 rfl rfl dX1_init_76 rfl rfl (Nat.le_of_ble_eq_true rfl)) (SP_J8_init (d := d + 6) (o := 12) (b := xsz h7) (xtag_newS rfl) (xown_newS rfl) (by decide) (xi_newS rfl) (gD [])) ?_
  intro g76 hc76 hm76
  obtain ⟨hB8, -, hF8⟩ := hc76
  have FN8 : xFr (oEq 12) 5 h7 (xNew h7 (xBlank 19 12 4) 4) := (xFr.rf (n := 0)).nw.sub (fun _ h => h) (by omega)
  have Fc8 : xFr (oEq 12) 30 h7 g76 := (FN8.tr hF8).sub (fun _ h => h) (by omega)
  have Y8 := X7.fr Fc8 (by unfold oEq; omega)
  have tp8 : xtag g76 x = 1 := Y8.1
  have op8 : xown g76 x ≠ 0 := by rw [Y8.2.1]; decide
  refine xw_putR (o := (some (xsz h7))) (pc := 79) fd_X1_55 (xfin_of (by decide) (by decide +kernel)) dX1_init_79 (by first | assumption | (simp [-List.getD_eq_getElem?_getD, xE_setI, xsz_setI, xsl_setI, xtag_setI, xown_setI, xlen_setI, xE_setR, xsz_setR, xsl_setR, xtag_setR, xown_setR, xlen_setR, xE_setW, xsz_setW, xsl_setW, xtag_setW, xown_setW, xlen_setW, xi_setR, xi_setW, xr_setI, xr_setW, xww_setI, xww_setR, xi_setI, xr_setR, xww_setW, xE_new, xsz_new, xsl_new, tg0, on0, tp1, op1, tg1, on1, tp2, op2, tg2, on2, tp3, op3, tg3, on3, tp4, op4, tg4, on4, tp5, op5, tg5, on5, tp6, op6, tg6, on6, tg7, on7, tp8, op8, xsub]; done) | (simp [-List.getD_eq_getElem?_getD, xE_setI, xsz_setI, xsl_setI, xtag_setI, xown_setI, xlen_setI, xE_setR, xsz_setR, xsl_setR, xtag_setR, xown_setR, xlen_setR, xE_setW, xsz_setW, xsl_setW, xtag_setW, xown_setW, xlen_setW, xi_setR, xi_setW, xr_setI, xr_setW, xww_setI, xww_setR, xi_setI, xr_setR, xww_setW, xE_new, xsz_new, xsl_new, tg0, on0, tp1, op1, tg1, on1, tp2, op2, tg2, on2, tp3, op3, tg3, on3, tp4, op4, tg4, on4, tp5, op5, tg5, on5, tp6, op6, tg6, on6, tg7, on7, tp8, op8] <;> rfl)) (by first | assumption | (simp [-List.getD_eq_getElem?_getD, xE_setI, xsz_setI, xsl_setI, xtag_setI, xown_setI, xlen_setI, xE_setR, xsz_setR, xsl_setR, xtag_setR, xown_setR, xlen_setR, xE_setW, xsz_setW, xsl_setW, xtag_setW, xown_setW, xlen_setW, xi_setR, xi_setW, xr_setI, xr_setW, xww_setI, xww_setR, xi_setI, xr_setR, xww_setW, xE_new, xsz_new, xsl_new, tg0, on0, tp1, op1, tg1, on1, tp2, op2, tg2, on2, tp3, op3, tg3, on3, tp4, op4, tg4, on4, tp5, op5, tg5, on5, tp6, op6, tg6, on6, tg7, on7, tp8, op8]; done) | (simp [-List.getD_eq_getElem?_getD, xE_setI, xsz_setI, xsl_setI, xtag_setI, xown_setI, xlen_setI, xE_setR, xsz_setR, xsl_setR, xtag_setR, xown_setR, xlen_setR, xE_setW, xsz_setW, xsl_setW, xtag_setW, xown_setW, xlen_setW, xi_setR, xi_setW, xr_setI, xr_setW, xww_setI, xww_setR, xi_setI, xr_setR, xww_setW, xE_new, xsz_new, xsl_new, tg0, on0, tp1, op1, tg1, on1, tp2, op2, tg2, on2, tp3, op3, tg3, on3, tp4, op4, tg4, on4, tp5, op5, tg5, on5, tp6, op6, tg6, on6, tg7, on7, tp8, op8]; assumption)) rfl ?_
  have Fp8 : xFr (oEq 1) 0 g76 (xsetR g76 x 10 (some (xsz h7))) := (xFr.rf (O := oEq 1) (n := 0)).sr (Or.inr Y8.2.1)
  have X8 := Y8.putR (j := 10) (v := some (xsz h7))
  have F8 : xFr (o1x 12) 30 h7 (xsetR g76 x 10 (some (xsz h7))) := ((Fc8.sub (O' := (o1x 12)) (fun o h => Or.inr h) (Nat.le_refl _)).tr (Fp8.sub (m := 0) (O' := (o1x 12)) (fun o h => by cases h; exact (Or.inl rfl)) (Nat.le_refl _))).sub (fun _ h => h) (by omega)
  have k8 := hB8.fr Fp8 (by unfold oEq; omega)
  generalize (xsetR g76 x 10 (some (xsz h7))) = h8 at X8 F8 k8 ⊢
  have tg8 : xtag h8 x = 1 := X8.1
  have on8 : xown h8 x ≠ 0 := by rw [X8.2.1]; decide
  refine xw_vret (pc := 82) dX1_init_82 rfl ?_
  have G6 : xFr oX3 40 h6 h8 := ((F7.sub (m := 0) (O' := oX3) (fun o h => by unfold oEq at h; unfold oX3; omega) (Nat.le_refl _)).tr (F8.sub (m := 30) (O' := oX3) (fun o h => by unfold o1x at h; unfold oX3; omega) (Nat.le_refl _))).sub (fun _ h => h) (by omega)
  have G12 : xFr (o1x 12) 40 h6 h8 := ((F7.sub (m := 0) (O' := o1x 12) (fun o h => by unfold oEq at h; unfold o1x; omega) (Nat.le_refl _)).tr (F8.sub (m := 30) (O' := o1x 12) (fun o h => h) (Nat.le_refl _))).sub (fun _ h => h) (by omega)
  have G5 : xFr oX3 80 h5 h8 := ((F6.sub (m := 30) (O' := oX3) (fun o h => by unfold o1x at h; unfold oX3; omega) (Nat.le_refl _)).tr G6).sub (fun _ h => h) (by omega)
  have G4 : xFr oX3 90 h4 h8 := ((F5.sub (m := 4) (O' := oX3) (fun o h => by unfold oEq at h; unfold oX3; omega) (Nat.le_refl _)).tr G5).sub (fun _ h => h) (by omega)
  have G3 : xFr oX3 100 h3 h8 := ((F4.sub (m := 7) (O' := oX3) (fun o h => by unfold oEq at h; unfold oX3; omega) (Nat.le_refl _)).tr G4).sub (fun _ h => h) (by omega)
  have G2 : xFr oX2 160 h2 h8 := ((F3.sub (m := 60) (O' := oX2) (fun o h => by unfold o1x at h; unfold oX2; omega) (Nat.le_refl _)).tr (G3.sub (O' := oX2) (fun o h => by unfold oX3 at h; unfold oX2; omega) (Nat.le_refl _))).sub (fun _ h => h) (by omega)
  have G1 : xFr oX1 200 h1 h8 := ((F2.sub (m := 30) (O' := oX1) (fun o h => by unfold o1x at h; unfold oX1; omega) (Nat.le_refl _)).tr (G2.sub (O' := oX1) (fun o h => by unfold oX2 at h; unfold oX1; omega) (Nat.le_refl _))).sub (fun _ h => h) (by omega)
  have G0 : xFr (fun o => o = 6 ∨ o = 7 ∨ o = 11 ∨ o = 12 ∨ o = 1 ∨ oP (xsz g) o) 300 g h8 := ((F1.sub (O' := fun o => o = 6 ∨ o = 7 ∨ o = 11 ∨ o = 12 ∨ o = 1 ∨ oP (xsz g) o) (fun o h => h.elim (fun h => Or.inr (Or.inr (Or.inr (Or.inr (Or.inl h))))) (fun h => Or.inr (Or.inr (Or.inr (Or.inr (Or.inr h)))))) (Nat.le_refl _)).tr (G1.sub (O' := fun o => o = 6 ∨ o = 7 ∨ o = 11 ∨ o = 12 ∨ o = 1 ∨ oP (xsz g) o) (fun o h => by unfold oX1 at h; omega) (Nat.le_refl _))).sub (fun _ h => h) (by omega)
  have R := X8.2.2.1
  have I := X8.2.2.2
  have hKs := hK.fr G0 (by unfold oP; omega)
  have pP := k1.fr G1 (fun o h1 h2 => by unfold oP at h1; unfold oX1 at h2; omega) (by unfold oX1; omega)
  have pD := k2.fr G2 (by unfold oX2; omega)
  have hll : xsz h2 < xsz h3 := xlt (by rw [k3.1.1]; decide)
  have pL := k3.fr G3 (fun j _ => G3.r' hll (by rw [k3.2.2.1.1]; unfold oX3; omega))
  have h4l : xsz h3 < xsz h4 := xlt (by rw [k4.1]; decide)
  have h5l : xsz h4 < xsz h5 := xlt (by rw [k5.1]; decide)
  refine ⟨rfl, ⟨rfl, xsz g, xsz h2, fa, ka, la, Z, 1, 0, 0, xsz h1, da, 0, [], none, ⟨⟨X8.1, X8.2.1, (R 0).trans rfl⟩, pP, (R 3).trans rfl, pL, hKs.1, hKs.2.1⟩, ⟨(R 2).trans rfl, pD, rfl, Nat.zero_le _, fun k hk => absurd hk (Nat.not_lt_zero k)⟩, ⟨(R 1).trans rfl, rfl, fun q hq => by cases hq⟩, by simp, ⟨(I 4).trans rfl, (I 5).trans rfl⟩, ⟨xsz h3, 4, (R 6).trans rfl, (G4.own h4l).trans k4.2.1, rfl, Nat.le_refl _, (G4.tag h4l).trans k4.1, (G4.len h4l).trans k4.2.2.1, fun k hk => Or.inl ⟨?_, (G4.r' h4l (by rw [k4.2.1]; unfold oX3; omega)).trans (k4.2.2.2 k)⟩⟩, ⟨xsz h4, (R 7).trans rfl, (G5.tag h5l).trans k5.1, (G5.own h5l).trans k5.2.1, (G5.len h5l).trans k5.2.2.1, fun r hr => Or.inl ⟨?_, (G5.r' h5l (by rw [k5.2.1]; unfold oX3; omega)).trans (k5.2.2.2 r)⟩⟩, ⟨xsz h5, 0, gD [], (R 8).trans rfl, ⟨_, Or.inl (k6.fr G12 (by unfold o1x; omega))⟩, by decide, rfl, fun j hj => absurd hj (Nat.not_lt_zero j)⟩, ⟨(I 9).trans rfl, Or.inl rfl⟩, ⟨xsz h7, [], (R 10).trans rfl, ⟨_, k8⟩, by decide, rfl, fun j hj => absurd hj (Nat.not_lt_zero j)⟩⟩, hKs, G0⟩
  · have h9 : k = 0 ∨ k = 1 ∨ k = 2 ∨ k = 3 ∨ k = 4 ∨ k = 5 := by omega
    rcases h9 with rfl | rfl | rfl | rfl | rfl | rfl <;> rfl
  · have h9 : r = 0 ∨ r = 1 ∨ r = 2 := by omega
    rcases h9 with rfl | rfl | rfl <;> rfl

