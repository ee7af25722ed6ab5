/-! JDK 2: ArrayList, its making; adding beyond the room -/
set_option maxRecDepth 100000
theorem SP_J0_init {d : Nat} {g : xG} {a : Nat} : XM M_J0_init (d + 1) [.ref a] g (xOne none g) := by
  refine xm_of (by decide +kernel) (Nat.le_of_ble_eq_true rfl) ?_
  show XW _ _ 0 [(0, _)] [] _ _
  refine xw_aload_n (pc := 0) dJ0_init_0 0 rfl ?_
  refine xw_objInit (pc := 1) dJ0_init_1 q168 (Nat.le_of_ble_eq_true rfl) ?_
  refine xw_vret (pc := 4) dJ0_init_4 rfl ?_
  exact ⟨rfl, rfl⟩

theorem SP_J1_init {d : Nat} {g : xG} {a : Nat} (t1 : xtag g a = 18) (ho : xown g a ≠ 0) : XM M_J1_init (d + 2) [.ref a] g (xOne none (xsetI g a 0 (nI 0))) := by
  refine xm_of (by decide +kernel) (Nat.le_of_ble_eq_true rfl) ?_
  show XW _ _ 0 [(0, _)] [] _ _
  refine xw_aload_n (pc := 0) dJ1_init_0 0 rfl ?_
  refine xw_callU (pc := 1) (xr_I (as := []) ok_J0_init rfl (by decide) q165 q166 rfl rfl dJ1_init_1 rfl rfl (Nat.le_of_ble_eq_true rfl)) (SP_J0_init) ?_
  refine xw_aload_n (pc := 4) dJ1_init_4 0 rfl ?_
  refine xw_iconst (v := nI 0) (pc := 5) dJ1_init_5 rfl ?_
  refine xw_putI (pc := 6) fd_J1_7 (xfin_of (by decide) (by decide +kernel)) dJ1_init_6 (by first | assumption | (simp [xE_setI, xsz_setI, xsl_setI, xtag_setI, xown_setI, xlen_setI, xE_setR, xsz_setR, xsl_setR, xtag_setR, xown_setR, xlen_setR, xE_setW, xsz_setW, xsl_setW, xtag_setW, xown_setW, xlen_setW, xi_setR, xi_setW, xr_setI, xr_setW, xww_setI, xww_setR, xi_setI, xr_setR, xww_setW, xE_new, xsz_new, xsl_new, t1, xsub]; done) | (simp [xE_setI, xsz_setI, xsl_setI, xtag_setI, xown_setI, xlen_setI, xE_setR, xsz_setR, xsl_setR, xtag_setR, xown_setR, xlen_setR, xE_setW, xsz_setW, xsl_setW, xtag_setW, xown_setW, xlen_setW, xi_setR, xi_setW, xr_setI, xr_setW, xww_setI, xww_setR, xi_setI, xr_setR, xww_setW, xE_new, xsz_new, xsl_new, t1] <;> rfl)) (by first | assumption | (simp [xE_setI, xsz_setI, xsl_setI, xtag_setI, xown_setI, xlen_setI, xE_setR, xsz_setR, xsl_setR, xtag_setR, xown_setR, xlen_setR, xE_setW, xsz_setW, xsl_setW, xtag_setW, xown_setW, xlen_setW, xi_setR, xi_setW, xr_setI, xr_setW, xww_setI, xww_setR, xi_setI, xr_setR, xww_setW, xE_new, xsz_new, xsl_new, t1]; done) | (simp [xE_setI, xsz_setI, xsl_setI, xtag_setI, xown_setI, xlen_setI, xE_setR, xsz_setR, xsl_setR, xtag_setR, xown_setR, xlen_setR, xE_setW, xsz_setW, xsl_setW, xtag_setW, xown_setW, xlen_setW, xi_setR, xi_setW, xr_setI, xr_setW, xww_setI, xww_setR, xi_setI, xr_setR, xww_setW, xE_new, xsz_new, xsl_new, t1]; assumption)) ?_
  refine xw_vret (pc := 9) dJ1_init_9 rfl ?_
  exact ⟨rfl, rfl⟩

theorem SP_J2_initX {d : Nat} {g : xG} {a n o : Nat} (t1 : xtag g a = 18) (ho : xown g a = o) (hn0 : 0 < n) (hn : n < 1000) (o0 : o ≠ 0) : XM M_J2_init (d + 3) [.ref a, .int (nI n)] g (xOne none (xsetR (xNew (xsetI g a 0 (nI 0)) (xBlank 108 o n) n) a 1 (some (xsz g)))) := by
  have h0 : xown g a ≠ 0 := by rw [ho]; exact o0
  have hlt : a < xsz g := xlt (by rw [t1]; decide)
  refine xm_of (by decide +kernel) (Nat.le_of_ble_eq_true rfl) ?_
  show XW _ _ 0 [(0, _), (1, _)] [] _ _
  refine xw_aload_n (pc := 0) dJ2_init_0 0 rfl ?_
  refine xw_callU (pc := 1) (xr_I (as := []) ok_J1_init rfl (by decide) q162 q163 rfl rfl dJ2_init_1 rfl rfl (Nat.le_of_ble_eq_true rfl)) (SP_J1_init t1 h0) ?_
  refine xw_iload_n (pc := 4) dJ2_init_4 1 rfl ?_
  refine xw_if_le (pc := 5) 19 dJ2_init_5 rfl (fun hb5 => ?_) (fun hb5 => ?_)
  · exfalso
    replace hb5 : n ≤ 0 := (nI_leI (a := n) (b := 0) (by omega) (by omega)).mp hb5
    omega
  replace hb5 : ¬ (n ≤ 0) := mt (nI_leI (a := n) (b := 0) (by omega) (by omega)).mpr hb5
  refine xw_aload_n (pc := 8) dJ2_init_8 0 rfl ?_
  refine xw_iload_n (pc := 9) dJ2_init_9 1 rfl ?_
  refine xw_anew (q := 7) (n := n) (pc := 10) o dJ2_init_10 (by decide) (by decide) rfl q169 (by decide) (by first | decide | assumption | omega) rfl (by omega) ?_
  refine xw_at (a := (xsz g)) (by rfl) ?_
  refine xw_putR (o := (some (xsz g))) (pc := 13) fd_J2_9 (xfin_of (by decide) (by decide +kernel)) dJ2_init_13 (by first | assumption | (simp (disch := (simp only [xE_setI, xsz_setI, xsl_setI, xtag_setI, xown_setI, xlen_setI, xE_setR, xsz_setR, xsl_setR, xtag_setR, xown_setR, xlen_setR, xE_setW, xsz_setW, xsl_setW, xtag_setW, xown_setW, xlen_setW, xi_setR, xi_setW, xr_setI, xr_setW, xww_setI, xww_setR, xi_setI, xr_setR, xww_setW, xE_new, xsz_new, xsl_new]; omega)) [xE_setI, xsz_setI, xsl_setI, xtag_setI, xown_setI, xlen_setI, xE_setR, xsz_setR, xsl_setR, xtag_setR, xown_setR, xlen_setR, xE_setW, xsz_setW, xsl_setW, xtag_setW, xown_setW, xlen_setW, xi_setR, xi_setW, xr_setI, xr_setW, xww_setI, xww_setR, xi_setI, xr_setR, xww_setW, xE_new, xsz_new, xsl_new, xtag_new, xown_new, xlen_new, xi_new, xr_new, xww_new, xtag_newS, xown_newS, xlen_newS, xi_newS, xr_newS, xww_newS, t1, xsub]; done) | (simp (disch := (simp only [xE_setI, xsz_setI, xsl_setI, xtag_setI, xown_setI, xlen_setI, xE_setR, xsz_setR, xsl_setR, xtag_setR, xown_setR, xlen_setR, xE_setW, xsz_setW, xsl_setW, xtag_setW, xown_setW, xlen_setW, xi_setR, xi_setW, xr_setI, xr_setW, xww_setI, xww_setR, xi_setI, xr_setR, xww_setW, xE_new, xsz_new, xsl_new]; omega)) [xE_setI, xsz_setI, xsl_setI, xtag_setI, xown_setI, xlen_setI, xE_setR, xsz_setR, xsl_setR, xtag_setR, xown_setR, xlen_setR, xE_setW, xsz_setW, xsl_setW, xtag_setW, xown_setW, xlen_setW, xi_setR, xi_setW, xr_setI, xr_setW, xww_setI, xww_setR, xi_setI, xr_setR, xww_setW, xE_new, xsz_new, xsl_new, xtag_new, xown_new, xlen_new, xi_new, xr_new, xww_new, xtag_newS, xown_newS, xlen_newS, xi_newS, xr_newS, xww_newS, t1] <;> rfl)) (by first | assumption | (simp (disch := (simp only [xE_setI, xsz_setI, xsl_setI, xtag_setI, xown_setI, xlen_setI, xE_setR, xsz_setR, xsl_setR, xtag_setR, xown_setR, xlen_setR, xE_setW, xsz_setW, xsl_setW, xtag_setW, xown_setW, xlen_setW, xi_setR, xi_setW, xr_setI, xr_setW, xww_setI, xww_setR, xi_setI, xr_setR, xww_setW, xE_new, xsz_new, xsl_new]; omega)) [xE_setI, xsz_setI, xsl_setI, xtag_setI, xown_setI, xlen_setI, xE_setR, xsz_setR, xsl_setR, xtag_setR, xown_setR, xlen_setR, xE_setW, xsz_setW, xsl_setW, xtag_setW, xown_setW, xlen_setW, xi_setR, xi_setW, xr_setI, xr_setW, xww_setI, xww_setR, xi_setI, xr_setR, xww_setW, xE_new, xsz_new, xsl_new, xtag_new, xown_new, xlen_new, xi_new, xr_new, xww_new, xtag_newS, xown_newS, xlen_newS, xi_newS, xr_newS, xww_newS, t1]; done) | (simp (disch := (simp only [xE_setI, xsz_setI, xsl_setI, xtag_setI, xown_setI, xlen_setI, xE_setR, xsz_setR, xsl_setR, xtag_setR, xown_setR, xlen_setR, xE_setW, xsz_setW, xsl_setW, xtag_setW, xown_setW, xlen_setW, xi_setR, xi_setW, xr_setI, xr_setW, xww_setI, xww_setR, xi_setI, xr_setR, xww_setW, xE_new, xsz_new, xsl_new]; omega)) [xE_setI, xsz_setI, xsl_setI, xtag_setI, xown_setI, xlen_setI, xE_setR, xsz_setR, xsl_setR, xtag_setR, xown_setR, xlen_setR, xE_setW, xsz_setW, xsl_setW, xtag_setW, xown_setW, xlen_setW, xi_setR, xi_setW, xr_setI, xr_setW, xww_setI, xww_setR, xi_setI, xr_setR, xww_setW, xE_new, xsz_new, xsl_new, xtag_new, xown_new, xlen_new, xi_new, xr_new, xww_new, xtag_newS, xown_newS, xlen_newS, xi_newS, xr_newS, xww_newS, t1]; assumption)) rfl ?_
  refine xw_goto (pc := 16) 60 dJ2_init_16 rfl ?_
  refine xw_vret (pc := 60) dJ2_init_60 rfl ?_
  exact ⟨rfl, rfl⟩

theorem SP_J2_init {d : Nat} {g : xG} {a n o : Nat} (t1 : xtag g a = 18) (ho : xown g a = o) (hs : xi g a 2 = nI 0) (hn0 : 0 < n) (hn : n < 1000) (o0 : o ≠ 0) : XM M_J2_init (d + 3) [.ref a, .int (nI n)] g (xVoid (fun g' => xAL g' o a (xsz g) [] ∧ xlen g' (xsz g) = n ∧ xFr (oEq o) (n + 1) g g')) := by
  refine (SP_J2_initX t1 ho hn0 hn o0).mono (fun rs g' hp _ => ?_)
  obtain ⟨rfl, rfl⟩ := hp
  have hlt : a < xsz g := xlt (by rw [t1]; decide)
  have hlt1 : a < xsz (xsetI g a 0 (nI 0)) := hlt
  have hne : xsz g ≠ a := by omega
  refine ⟨rfl, ⟨?_, ?_, ?_, ?_, ?_, Or.inl ?_, ?_, ?_, fun i hi => absurd hi (Nat.not_lt_zero i)⟩, ?_, ?_⟩
  · rw [xtag_setR, xtag_new hlt1, xtag_setI]; exact t1
  · rw [xown_setR, xown_new hlt1, xown_setI]; exact ho
  · rw [xr_setRS (by rw [xtag_new hlt1, xtag_setI, t1]; decide)]
  · rw [xi_setR, xi_new hlt1, xi_setIK (by decide)]; exact hs
  · rw [xtag_setR, xtag_newS (b := xsz g) (g := xsetI g a 0 (nI 0)) rfl]; rfl
  · rw [xown_setR, xown_newS (b := xsz g) (g := xsetI g a 0 (nI 0)) rfl]; rfl
  · exact Nat.zero_le _
  · rw [xlen_setR, xlen_newS (b := xsz g) (g := xsetI g a 0 (nI 0)) rfl]; exact hn
  · rw [xlen_setR, xlen_newS (b := xsz g) (g := xsetI g a 0 (nI 0)) rfl]; rfl
  · have h1 : xFr (oEq o) 0 g (xsetI g a 0 (nI 0)) := xFr.rf.si (Or.inr ho)
    have h2 : xFr (oEq o) (0 + (n + 1)) g (xNew (xsetI g a 0 (nI 0)) (xBlank 108 o n) n) := h1.nw
    have h3 := h2.sr (a := a) (j := 1) (v := some (xsz g)) (Or.inr (by rw [xown_new hlt1, xown_setI]; exact ho))
    exact h3.sub (fun _ h => h) (by omega)
/-- the constants' rows that the lists lean on -/
def xEmp (g : xG) : Prop := xtag g ((xE g).2.2.1 4) = 108 ∧ xlen g ((xE g).2.2.1 4) = 0 ∧ xown g ((xE g).2.2.1 4) = 0
theorem SP_J2_initEX {d : Nat} {g : xG} {a : Nat} (t1 : xtag g a = 18) (h0 : xown g a ≠ 0) : XM M_J2_init_2 (d + 3) [.ref a] g (xOne none (xsetR (xsetI g a 0 (nI 0)) a 1 (some ((xE g).2.2.1 4)))) := by
  refine xm_of (by decide +kernel) (Nat.le_of_ble_eq_true rfl) ?_
  show XW _ _ 0 [(0, _)] [] _ _
  refine xw_aload_n (pc := 0) dJ2_init_2_0 0 rfl ?_
  refine xw_callU (pc := 1) (xr_I (as := []) ok_J1_init rfl (by decide) q162 q163 rfl rfl dJ2_init_2_1 rfl rfl (Nat.le_of_ble_eq_true rfl)) (SP_J1_init t1 h0) ?_
  refine xw_aload_n (pc := 4) dJ2_init_2_4 0 rfl ?_
  refine xw_gets (i := 4) (pc := 5) dJ2_init_2_5 rfl q544 ?_
  refine xw_putR (o := (some ((xE g).2.2.1 4))) (pc := 8) fd_J2_9 (xfin_of (by decide) (by decide +kernel)) dJ2_init_2_8 (by first | assumption | (simp [xE_setI, xsz_setI, xsl_setI, xtag_setI, xown_setI, xlen_setI, xE_setR, xsz_setR, xsl_setR, xtag_setR, xown_setR, xlen_setR, xE_setW, xsz_setW, xsl_setW, xtag_setW, xown_setW, xlen_setW, xi_setR, xi_setW, xr_setI, xr_setW, xww_setI, xww_setR, xi_setI, xr_setR, xww_setW, xE_new, xsz_new, xsl_new, t1, xsub]; done) | (simp [xE_setI, xsz_setI, xsl_setI, xtag_setI, xown_setI, xlen_setI, xE_setR, xsz_setR, xsl_setR, xtag_setR, xown_setR, xlen_setR, xE_setW, xsz_setW, xsl_setW, xtag_setW, xown_setW, xlen_setW, xi_setR, xi_setW, xr_setI, xr_setW, xww_setI, xww_setR, xi_setI, xr_setR, xww_setW, xE_new, xsz_new, xsl_new, t1] <;> rfl)) (by first | assumption | (simp [xE_setI, xsz_setI, xsl_setI, xtag_setI, xown_setI, xlen_setI, xE_setR, xsz_setR, xsl_setR, xtag_setR, xown_setR, xlen_setR, xE_setW, xsz_setW, xsl_setW, xtag_setW, xown_setW, xlen_setW, xi_setR, xi_setW, xr_setI, xr_setW, xww_setI, xww_setR, xi_setI, xr_setR, xww_setW, xE_new, xsz_new, xsl_new, t1]; done) | (simp [xE_setI, xsz_setI, xsl_setI, xtag_setI, xown_setI, xlen_setI, xE_setR, xsz_setR, xsl_setR, xtag_setR, xown_setR, xlen_setR, xE_setW, xsz_setW, xsl_setW, xtag_setW, xown_setW, xlen_setW, xi_setR, xi_setW, xr_setI, xr_setW, xww_setI, xww_setR, xi_setI, xr_setR, xww_setW, xE_new, xsz_new, xsl_new, t1]; assumption)) rfl ?_
  refine xw_vret (pc := 11) dJ2_init_2_11 rfl ?_
  exact ⟨rfl, rfl⟩

theorem SP_J2_initE {d : Nat} {g : xG} {a o : Nat} (hE : xEmp g) (t1 : xtag g a = 18) (ho : xown g a = o) (hs : xi g a 2 = nI 0) (o0 : o ≠ 0) : XM M_J2_init_2 (d + 3) [.ref a] g (xVoid (fun g' => xAL g' o a ((xE g).2.2.1 4) [] ∧ xFr (oEq o) 0 g g')) := by
  refine (SP_J2_initEX t1 (by rw [ho]; exact o0)).mono (fun rs g' hp _ => ?_)
  obtain ⟨rfl, rfl⟩ := hp
  obtain ⟨e1, e2, e3⟩ := hE
  refine ⟨rfl, ⟨?_, ?_, ?_, ?_, ?_, Or.inr ?_, ?_, ?_, fun i hi => absurd hi (Nat.not_lt_zero i)⟩, ?_⟩
  · rw [xtag_setR, xtag_setI]; exact t1
  · rw [xown_setR, xown_setI]; exact ho
  · rw [xr_setRS (by rw [xtag_setI, t1]; decide)]
  · rw [xi_setR, xi_setIK (by decide)]; exact hs
  · rw [xtag_setR, xtag_setI]; exact e1
  · rw [xlen_setR, xlen_setI]; exact e2
  · exact Nat.zero_le _
  · rw [xlen_setR, xlen_setI, e2]; decide
  · exact (xFr.rf.si (Or.inr ho)).sr (Or.inr (by rw [xown_setI]; exact ho))
theorem xAL.fr {O : Nat → Prop} {n : Nat} {g g' : xG} {o a arr : Nat} {ls : List Nat} (h : xAL g o a arr ls) (F : xFr O n g g') (hO : ¬ O o) : xAL g' o a arr ls := by
  obtain ⟨t1, t2, t3, t4, t5, t6, t7, t8, t9⟩ := h
  have ha : a < xsz g := xlt (by rw [t1]; decide)
  have hr : arr < xsz g := xlt (by rw [t5]; decide)
  have h1 : ¬ O (xown g a) := by rw [t2]; exact hO
  refine ⟨(F.tag ha).trans t1, (F.own ha).trans t2, (F.r' ha h1).trans t3, (F.i' ha h1).trans t4, (F.tag hr).trans t5, ?_, by rw [F.len hr]; exact t7, by rw [F.len hr]; exact t8, fun i hi => ?_⟩
  · rw [F.own hr, F.len hr]; exact t6
  · rcases t6 with q | q
    · rw [F.r' hr (by rw [q]; exact hO)]; exact t9 i hi
    · omega
/-- one more, within the room -/
theorem SP_J2_addF {d : Nat} {g : xG} {o a arr : Nat} {ls : List Nat} (h : xAL g o a arr ls) (ho : o ≠ 0) {b : Nat} (hb : xObj g b) (hf : ls.length < xlen g arr) : XM M_J2_add (d + 1) [.ref a, .ref b] g (xVal (.int (nI 1)) (fun g' => xAL g' o a arr (ls ++ [b]) ∧ xFr (oEq o) 0 g g')) := by
  have h0 := h
  refine (XM.mono (SP_J2_addX h ho hb hf) (P' := fun rs g' => rs = .inl (some (.int (nI 1))) ∧ xAL g' o a arr (ls ++ [b]) ∧ xFr (oEq o) 0 g g') ?_).mono (fun rs g' hp _ => hp)
  intro rs g' hp _
  have hp0 := hp
  obtain ⟨rfl, rfl⟩ := hp
  obtain ⟨t1, t2, t3, t4, t5, t6, t7, t8, t9⟩ := h
  have hao : xown g arr = o := by rcases t6 with q | q; exact q; omega
  have hne : a ≠ arr := fun q => by rw [q, t5] at t1; cases t1
  have hta : xtag g arr ≠ 0 := by rw [t5]; decide
  refine ⟨rfl, ⟨by simp only [xtag_setI, xtag_setR]; exact t1, by simp only [xown_setI, xown_setR]; exact t2, by rw [xr_setI, xr_setRN hne, xr_setI]; exact t3, by rw [xi_setIS (by simp only [xtag_setI, xtag_setR]; rw [t1]; decide)]; simp, by simp only [xtag_setI, xtag_setR]; exact t5, by simp only [xown_setI, xown_setR]; exact Or.inl hao, by simp only [xlen_setI, xlen_setR, List.length_append, List.length_singleton]; omega, by simp only [xlen_setI, xlen_setR]; exact t8, fun i hi => ?_⟩, ((xFr.rf.si (Or.inr t2)).sr (Or.inr (by rw [xown_setI]; exact hao))).si (Or.inr (by rw [xown_setR, xown_setI]; exact t2))⟩
  rw [xr_setI, xr_setR (by rw [xtag_setI]; exact hta)]
  simp only [List.length_append, List.length_singleton] at hi
  by_cases hi2 : i = ls.length
  · subst hi2
    rw [if_pos ⟨rfl, rfl⟩]
    simp
  · rw [if_neg (fun q => hi2 q.2), xr_setI, t9 i (by omega)]
    rw [List.getD_eq_getElem?_getD, List.getD_eq_getElem?_getD, List.getElem?_append_left (by omega)]
