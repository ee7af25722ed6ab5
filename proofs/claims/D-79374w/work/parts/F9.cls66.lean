/-! CLASS 66: the policy, the look and the notation, made -/
set_option maxRecDepth 100000
/-- a new policy's ints -/
def iP : Nat → Int32 := fun i => if i = 0 then nI 1 else if i = 3 then -1 else 0
theorem iP_S : iS iF 6 3 1 = iP := rfl
theorem iP_o : WFo iP 1 := ⟨rfl, fun k h0 h1 => by omega⟩
theorem iP_wf : WFS iP 1 0 0 := ⟨by decide, by decide, by decide, by decide, rfl, rfl, rfl, iP_o, ⟨by decide, fun i hi => Or.inr ⟨0, by decide, by
    have e : i = 0 := by omega
    subst e
    rfl⟩⟩, fun r hr => absurd hr (Nat.not_lt_zero r), fun w hw => absurd hw (Nat.not_lt_zero w)⟩
theorem effO_z {g : xG} : effO g (0 : Int32) = some ((xE g).2.2.1 0) := if_pos rfl
/-- the notation's object: its refs R, its ints I -/
def xX1 (g : xG) (x : Nat) (R : Nat → Option Nat) (I : Nat → Int32) : Prop := xtag g x = 1 ∧ xown g x = 1 ∧ (∀ j, xr g x j = R j) ∧ ∀ j, xi g x j = I j
theorem xX1.lt {g : xG} {x : Nat} {R : Nat → Option Nat} {I : Nat → Int32} (h : xX1 g x R I) : x < xsz g := xlt (by rw [h.1]; decide)
theorem xX1.fr {g g' : xG} {x N : Nat} {O : Nat → Prop} {R : Nat → Option Nat} {I : Nat → Int32} (h : xX1 g x R I) (F : xFr O N g g') (h1 : ¬ O 1) : xX1 g' x R I := ⟨(F.tag h.lt).trans h.1, (F.own h.lt).trans h.2.1, fun j => (F.r' h.lt (by rw [h.2.1]; exact h1)).trans (h.2.2.1 j), fun j => (F.i' h.lt (by rw [h.2.1]; exact h1)).trans (h.2.2.2 j)⟩
theorem xX1.putR {g : xG} {x j : Nat} {v : Option Nat} {R : Nat → Option Nat} {I : Nat → Int32} (h : xX1 g x R I) : xX1 (xsetR g x j v) x (fun i => if i = j then v else R i) I := by
  refine ⟨xtag_setR.trans h.1, xown_setR.trans h.2.1, fun i => ?_, fun i => xi_setR.trans (h.2.2.2 i)⟩
  by_cases e : i = j
  · subst e
    exact (xr_setRS (by rw [h.1]; decide)).trans (if_pos rfl).symm
  · exact (xr_setRK e).trans ((h.2.2.1 i).trans (if_neg e).symm)
theorem xX1.putI {g : xG} {x j : Nat} {v : Int32} {R : Nat → Option Nat} {I : Nat → Int32} (h : xX1 g x R I) : xX1 (xsetI g x j v) x R (fun i => if i = j then v else I i) := by
  refine ⟨xtag_setI.trans h.1, xown_setI.trans h.2.1, fun i => xr_setI.trans (h.2.2.1 i), fun i => ?_⟩
  by_cases e : i = j
  · subst e
    exact (xi_setIS (by rw [h.1]; decide)).trans (if_pos rfl).symm
  · exact (xi_setIK e).trans ((h.2.2.2 i).trans (if_neg e).symm)
/-- the look half made: refs R; arrays in as -/
def xLk1 (g : xG) (lk : Nat) (R : Nat → Option Nat) : Prop := xtag g lk = 4 ∧ xown g lk = 6 ∧ ∀ j, xr g lk j = R j
theorem xLk1.lt {g : xG} {lk : Nat} {R : Nat → Option Nat} (h : xLk1 g lk R) : lk < xsz g := xlt (by rw [h.1]; decide)
theorem xLk1.put {g : xG} {lk j : Nat} {v : Option Nat} {R : Nat → Option Nat} (h : xLk1 g lk R) : xLk1 (xsetR g lk j v) lk (fun i => if i = j then v else R i) := by
  refine ⟨xtag_setR.trans h.1, xown_setR.trans h.2.1, fun i => ?_⟩
  by_cases e : i = j
  · subst e
    exact (xr_setRS (by rw [h.1]; decide)).trans (if_pos rfl).symm
  · exact (xr_setRK e).trans ((h.2.2 i).trans (if_neg e).symm)
theorem xLk1.nw {g : xG} {lk k : Nat} {c : xCell} {R : Nat → Option Nat} (h : xLk1 g lk R) : xLk1 (xNew g c k) lk R := ⟨(xtag_new h.lt).trans h.1, (xown_new h.lt).trans h.2.1, fun j => (xr_new h.lt).trans (h.2.2 j)⟩
/-- an array of the look's -/
def xLa (g : xG) (a n : Nat) : Prop := xtag g a = 101 ∧ xown g a = 6 ∧ xlen g a = n
theorem xLa.fr {g g' : xG} {a n N : Nat} {O : Nat → Prop} (h : xLa g a n) (F : xFr O N g g') : xLa g' a n := by
  have ha : a < xsz g := xlt (by rw [h.1]; decide)
  exact ⟨(F.tag ha).trans h.1, (F.own ha).trans h.2.1, (F.len ha).trans h.2.2⟩
theorem xLa.new {g : xG} {n : Nat} {lk j : Nat} {v : Option Nat} (h : lk ≠ xsz g) : xLa (xsetR (xNew g (xBlank 101 6 n) n) lk j v) (xsz g) n := by
  have e : xc (xsetR (xNew g (xBlank 101 6 n) n) lk j v) (xsz g) = xBlank 101 6 n := (xc_setR (Ne.symm h)).trans xc_new
  exact ⟨congrArg (fun z : xCell => z.1) e, congrArg (fun z : xCell => z.2.1) e, congrArg (fun z : xCell => z.2.2.1) e⟩

theorem tl_X2_init {d : Nat} {g gk : xG} {q b0 : Nat} (hq : 0 < q) (hX0 : xCp gk q b0 iP (fun _ => []) [] [] []) (F : xFr (oP q) 53 g gk) : XW M_X2_init (d + 8) 43 [(0, .ref q)] [] gk (xVoid (fun g' => ∃ Z', xPol g' q Z' iP 1 0 0 ∧ xFr (oP q) 60 g g')) := by
  have hX1 := hX0
  obtain ⟨v1, ⟨v2, v3, v4, v5, v6, v7, v8⟩, v9, v10, v11⟩ := hX1
  have tb1 : xtag gk b0 = 18 := v6.1
  have m4 : xtag (xNew gk (xBlank 3 (1000 * q) 3) 3) q = 2 := (xtag_new (xlt (by rw [v2]; decide))).trans v2
  refine xw_aload_n (pc := 43) dX2_init_43 0 rfl ?_
  refine xw_getS (b := b0) (pc := 44) fd_X2_14 dX2_init_44 (by first | assumption | (simp [-List.getD_eq_getElem?_getD, xE_setI, xsz_setI, xsl_setI, xtag_setI, xown_setI, xlen_setI, xE_setR, xsz_setR, xsl_setR, xtag_setR, xown_setR, xlen_setR, xE_setW, xsz_setW, xsl_setW, xtag_setW, xown_setW, xlen_setW, xi_setR, xi_setW, xr_setI, xr_setW, xww_setI, xww_setR, xi_setI, xr_setR, xww_setW, xE_new, xsz_new, xsl_new, v2, v3, m4, tb1, xsub]; done) | (simp [-List.getD_eq_getElem?_getD, xE_setI, xsz_setI, xsl_setI, xtag_setI, xown_setI, xlen_setI, xE_setR, xsz_setR, xsl_setR, xtag_setR, xown_setR, xlen_setR, xE_setW, xsz_setW, xsl_setW, xtag_setW, xown_setW, xlen_setW, xi_setR, xi_setW, xr_setI, xr_setW, xww_setI, xww_setR, xi_setI, xr_setR, xww_setW, xE_new, xsz_new, xsl_new, v2, v3, m4, tb1] <;> rfl)) (by simp [-List.getD_eq_getElem?_getD, xE_setI, xsz_setI, xsl_setI, xtag_setI, xown_setI, xlen_setI, xE_setR, xsz_setR, xsl_setR, xtag_setR, xown_setR, xlen_setR, xE_setW, xsz_setW, xsl_setW, xtag_setW, xown_setW, xlen_setW, xi_setR, xi_setW, xr_setI, xr_setW, xww_setI, xww_setR, xi_setI, xr_setR, xww_setW, xE_new, xsz_new, xsl_new, v2, v3, m4, tb1]) ?_
  refine xw_new (t := 3) (pc := 47) (1000 * q) dX2_init_47 rfl (by decide) (by first | decide | assumption | omega) q504 q505 q113 ?_
  refine xw_at (a := (xsz gk)) (by rfl) ?_
  refine xw_dup (pc := 50) dX2_init_50 rfl ?_
  refine xw_null (pc := 51) dX2_init_51 ?_
  refine xw_iconst (v := nI 0) (pc := 52) dX2_init_52 rfl ?_
  refine xw_gets (i := 0) (pc := 53) dX2_init_53 rfl q506 ?_
  refine xw_callU (pc := 56) (xr_I (as := [_, _, _]) ok_X3_init rfl (by decide) q508 q509 rfl rfl dX2_init_56 rfl rfl (Nat.le_of_ble_eq_true rfl)) (SP_X3_new (o := 1000 * q) (out := none) (own := some ((xE gk).2.2.1 0)) (by omega)) ?_
  have hN3 := xSN_a (g := gk) (o := 1000 * q) (out := none) (k := nI 0) (own := some ((xE gk).2.2.1 0))
  have F5 := xSN.fr (o := 1000 * q) (out := none) (k := nI 0) (own := some ((xE gk).2.2.1 0)) (xFr.rf (O := oNo) (n := 0) (g := gk))
  have al5 := v6.fr F5 (fun h => h)
  have tb0 := al5.1
  have hcap : 10 ≤ xlen (xSN gk (1000 * q) none (nI 0) (some ((xE gk).2.2.1 0))) (b0 + 1) := by rw [F5.len (xlt (by rw [v6.2.2.2.2.1]; decide))]; exact v9.1
  have hcap0 : ([] : List Nat).length < xlen (xSN gk (1000 * q) none (nI 0) (some ((xE gk).2.2.1 0))) (b0 + 1) := Nat.lt_of_lt_of_le (by decide) hcap
  refine xw_callF (pc := 59) (xr_V (as := [_]) ok_J2_add rfl (by decide) q528 q529 q530 (by first | (rw [tb0]; rfl) | (rw [tb1]; rfl)) (by first | (rw [tb0]; rfl) | (rw [tb1]; rfl)) dX2_init_59 rfl rfl (Nat.le_of_ble_eq_true rfl)) (SP_J2_addF al5 (by omega) (xObj_S hN3.1) (by omega)) ?_
  intro g59 hc59 hm59
  refine xw_pop (pc := 62) dX2_init_62 rfl ?_
  refine xw_vret (pc := 63) dX2_init_63 rfl ?_
  have F3 : xFr (oEq (1000 * q + 1)) 4 gk g59 := ((F5.sub (fun o h => h.elim) (Nat.le_refl _)).tr hc59.2).sub (fun _ h => h) (by omega)
  have hb : xsz gk < xsz (xSN gk (1000 * q) none (nI 0) (some ((xE gk).2.2.1 0))) := xlt (by rw [hN3.1]; decide)
  have hno : ¬ oEq (1000 * q + 1) (xown (xSN gk (1000 * q) none (nI 0) (some ((xE gk).2.2.1 0))) (xsz gk)) := by rw [hN3.2.1]; unfold oEq; omega
  have hX2 := hX0.stepC hq F3 hc59.1 rfl iP_o (by decide) ((hc59.2.tag hb).trans hN3.1) ((hc59.2.own hb).trans hN3.2.1) (by rw [hc59.2.i' hb hno, hN3.2.2.2.1]; rfl) (by rw [hc59.2.r' hb hno, hN3.2.2.1]; rfl) (by rw [hc59.2.r' hb hno, hN3.2.2.2.2]; exact (show effO gk (0 : Int32) = _ from effO_z).symm)
  refine ⟨rfl, _, hX2.pol hq iP_wf rfl rfl rfl (fun w hw => absurd hw (Nat.not_lt_zero w)), ?_⟩
  exact (F.tr (F3.sub (m := 4) (O' := oP q) (fun o h => by unfold oEq at h; unfold oP; omega) (Nat.le_refl _))).sub (fun _ h => h) (by omega)
theorem SP_X2_init {d : Nat} {g : xG} {q : Nat} (hq : 0 < q) (ht : xtag g q = 2) (ho : xown g q = 1000 * q) : XM M_X2_init (d + 8) [.ref q] g (xVoid (fun g' => ∃ Z', xPol g' q Z' iP 1 0 0 ∧ xFr (oP q) 60 g g')) := by
  have hlq : q < xsz g := xlt (by rw [ht]; decide)
  have f1 := xLN_c (g := g) (o := 1000 * q + 1) (n := 10) hlq
  have t1 : xtag (xLN g (1000 * q + 1) 10) q = 2 := (xtag_of f1).trans ht
  have o1 : xown (xLN g (1000 * q + 1) 10) q ≠ 0 := by rw [xown_of f1, ho]; omega
  have f2 := xLN_c (g := (xsetR (xLN g (1000 * q + 1) 10) q 0 (some (xsz g)))) (o := 1000 * q + 2) (n := 16) (c := q) (by show q < xsz g + 2; omega)
  have t2 : xtag (xLN (xsetR (xLN g (1000 * q + 1) 10) q 0 (some (xsz g))) (1000 * q + 2) 16) q = 2 := by rw [xtag_of f2, xtag_setR]; exact t1
  have o2 : xown (xLN (xsetR (xLN g (1000 * q + 1) 10) q 0 (some (xsz g))) (1000 * q + 2) 16) q ≠ 0 := by rw [xown_of f2, xown_setR]; exact o1
  have f3 := xLN_c (g := (xsetR (xLN (xsetR (xLN g (1000 * q + 1) 10) q 0 (some (xsz g))) (1000 * q + 2) 16) q 1 (some (xsz g + 2)))) (o := 1000 * q + 3) (n := 12) (c := q) (by show q < xsz g + 2 + 2; omega)
  have t3 : xtag (xLN (xsetR (xLN (xsetR (xLN g (1000 * q + 1) 10) q 0 (some (xsz g))) (1000 * q + 2) 16) q 1 (some (xsz g + 2))) (1000 * q + 3) 12) q = 2 := by rw [xtag_of f3, xtag_setR]; exact t2
  have o3 : xown (xLN (xsetR (xLN (xsetR (xLN g (1000 * q + 1) 10) q 0 (some (xsz g))) (1000 * q + 2) 16) q 1 (some (xsz g + 2))) (1000 * q + 3) 12) q ≠ 0 := by rw [xown_of f3, xown_setR]; exact o2
  refine xm_of (by decide +kernel) (Nat.le_of_ble_eq_true rfl) ?_
  show XW _ _ 0 [(0, _)] [] _ _
  refine xw_aload_n (pc := 0) dX2_init_0 0 rfl ?_
  refine xw_objInit (pc := 1) dX2_init_1 q156 (Nat.le_of_ble_eq_true rfl) ?_
  refine xw_aload_n (pc := 4) dX2_init_4 0 rfl ?_
  refine xw_new (t := 18) (pc := 5) (1000 * q + 1) dX2_init_5 rfl (by decide) (by first | decide | assumption | omega) q157 q158 q96 ?_
  refine xw_at (a := (xsz g)) (by rfl) ?_
  refine xw_dup (pc := 8) dX2_init_8 rfl ?_
  refine xw_bipush (v := nI 10) (pc := 9) dX2_init_9 (by decide +kernel) ?_
  refine xw_callU (pc := 11) (xr_I (as := [_]) ok_J2_init rfl (by decide) q159 q160 rfl rfl dX2_init_11 rfl rfl (Nat.le_of_ble_eq_true rfl)) ((show XM M_J2_init (d + 7) [.ref (xsz g), .int (nI 10)] (xNew g (xBlank 18 (1000 * q + 1) 3) 3) (xOne none (xLN g (1000 * q + 1) 10)) from SP_J2_initX (d := d + 4) (by rw [xtag_newS rfl]; rfl) (by rw [xown_newS rfl]; rfl) (by decide) (by decide) (by omega))) ?_
  refine xw_putR (o := (some (xsz g))) (pc := 14) fd_X2_14 (xfin_of (by decide) (by decide +kernel)) dX2_init_14 (by first | assumption | (simp [-List.getD_eq_getElem?_getD, xE_setI, xsz_setI, xsl_setI, xtag_setI, xown_setI, xlen_setI, xE_setR, xsz_setR, xsl_setR, xtag_setR, xown_setR, xlen_setR, xE_setW, xsz_setW, xsl_setW, xtag_setW, xown_setW, xlen_setW, xi_setR, xi_setW, xr_setI, xr_setW, xww_setI, xww_setR, xi_setI, xr_setR, xww_setW, xE_new, xsz_new, xsl_new, ht, t1, t2, t3, o1, o2, o3, xsub]; done) | (simp [-List.getD_eq_getElem?_getD, xE_setI, xsz_setI, xsl_setI, xtag_setI, xown_setI, xlen_setI, xE_setR, xsz_setR, xsl_setR, xtag_setR, xown_setR, xlen_setR, xE_setW, xsz_setW, xsl_setW, xtag_setW, xown_setW, xlen_setW, xi_setR, xi_setW, xr_setI, xr_setW, xww_setI, xww_setR, xi_setI, xr_setR, xww_setW, xE_new, xsz_new, xsl_new, ht, t1, t2, t3, o1, o2, o3] <;> rfl)) (by first | assumption | (simp [-List.getD_eq_getElem?_getD, xE_setI, xsz_setI, xsl_setI, xtag_setI, xown_setI, xlen_setI, xE_setR, xsz_setR, xsl_setR, xtag_setR, xown_setR, xlen_setR, xE_setW, xsz_setW, xsl_setW, xtag_setW, xown_setW, xlen_setW, xi_setR, xi_setW, xr_setI, xr_setW, xww_setI, xww_setR, xi_setI, xr_setR, xww_setW, xE_new, xsz_new, xsl_new, ht, t1, t2, t3, o1, o2, o3]; done) | (simp [-List.getD_eq_getElem?_getD, xE_setI, xsz_setI, xsl_setI, xtag_setI, xown_setI, xlen_setI, xE_setR, xsz_setR, xsl_setR, xtag_setR, xown_setR, xlen_setR, xE_setW, xsz_setW, xsl_setW, xtag_setW, xown_setW, xlen_setW, xi_setR, xi_setW, xr_setI, xr_setW, xww_setI, xww_setR, xi_setI, xr_setR, xww_setW, xE_new, xsz_new, xsl_new, ht, t1, t2, t3, o1, o2, o3]; assumption)) rfl ?_
  refine xw_aload_n (pc := 17) dX2_init_17 0 rfl ?_
  refine xw_new (t := 18) (pc := 18) (1000 * q + 2) dX2_init_18 rfl (by decide) (by first | decide | assumption | omega) q157 q158 q96 ?_
  refine xw_at (a := (xsz g + 2)) (by rfl) ?_
  refine xw_dup (pc := 21) dX2_init_21 rfl ?_
  refine xw_bipush (v := nI 16) (pc := 22) dX2_init_22 (by decide +kernel) ?_
  refine xw_callU (pc := 24) (xr_I (as := [_]) ok_J2_init rfl (by decide) q159 q160 rfl rfl dX2_init_24 rfl rfl (Nat.le_of_ble_eq_true rfl)) ((show XM M_J2_init (d + 7) [.ref (xsz (xsetR (xLN g (1000 * q + 1) 10) q 0 (some (xsz g)))), .int (nI 16)] (xNew (xsetR (xLN g (1000 * q + 1) 10) q 0 (some (xsz g))) (xBlank 18 (1000 * q + 2) 3) 3) (xOne none (xLN (xsetR (xLN g (1000 * q + 1) 10) q 0 (some (xsz g))) (1000 * q + 2) 16)) from SP_J2_initX (d := d + 4) (by rw [xtag_newS rfl]; rfl) (by rw [xown_newS rfl]; rfl) (by decide) (by decide) (by omega))) ?_
  refine xw_putR (o := (some (xsz g + 2))) (pc := 27) fd_X2_20 (xfin_of (by decide) (by decide +kernel)) dX2_init_27 (by first | assumption | (simp [-List.getD_eq_getElem?_getD, xE_setI, xsz_setI, xsl_setI, xtag_setI, xown_setI, xlen_setI, xE_setR, xsz_setR, xsl_setR, xtag_setR, xown_setR, xlen_setR, xE_setW, xsz_setW, xsl_setW, xtag_setW, xown_setW, xlen_setW, xi_setR, xi_setW, xr_setI, xr_setW, xww_setI, xww_setR, xi_setI, xr_setR, xww_setW, xE_new, xsz_new, xsl_new, ht, t1, t2, t3, o1, o2, o3, xsub]; done) | (simp [-List.getD_eq_getElem?_getD, xE_setI, xsz_setI, xsl_setI, xtag_setI, xown_setI, xlen_setI, xE_setR, xsz_setR, xsl_setR, xtag_setR, xown_setR, xlen_setR, xE_setW, xsz_setW, xsl_setW, xtag_setW, xown_setW, xlen_setW, xi_setR, xi_setW, xr_setI, xr_setW, xww_setI, xww_setR, xi_setI, xr_setR, xww_setW, xE_new, xsz_new, xsl_new, ht, t1, t2, t3, o1, o2, o3] <;> rfl)) (by first | assumption | (simp [-List.getD_eq_getElem?_getD, xE_setI, xsz_setI, xsl_setI, xtag_setI, xown_setI, xlen_setI, xE_setR, xsz_setR, xsl_setR, xtag_setR, xown_setR, xlen_setR, xE_setW, xsz_setW, xsl_setW, xtag_setW, xown_setW, xlen_setW, xi_setR, xi_setW, xr_setI, xr_setW, xww_setI, xww_setR, xi_setI, xr_setR, xww_setW, xE_new, xsz_new, xsl_new, ht, t1, t2, t3, o1, o2, o3]; done) | (simp [-List.getD_eq_getElem?_getD, xE_setI, xsz_setI, xsl_setI, xtag_setI, xown_setI, xlen_setI, xE_setR, xsz_setR, xsl_setR, xtag_setR, xown_setR, xlen_setR, xE_setW, xsz_setW, xsl_setW, xtag_setW, xown_setW, xlen_setW, xi_setR, xi_setW, xr_setI, xr_setW, xww_setI, xww_setR, xi_setI, xr_setR, xww_setW, xE_new, xsz_new, xsl_new, ht, t1, t2, t3, o1, o2, o3]; assumption)) rfl ?_
  refine xw_aload_n (pc := 30) dX2_init_30 0 rfl ?_
  refine xw_new (t := 18) (pc := 31) (1000 * q + 3) dX2_init_31 rfl (by decide) (by first | decide | assumption | omega) q157 q158 q96 ?_
  refine xw_at (a := (xsz g + 4)) (by rfl) ?_
  refine xw_dup (pc := 34) dX2_init_34 rfl ?_
  refine xw_bipush (v := nI 12) (pc := 35) dX2_init_35 (by decide +kernel) ?_
  refine xw_callU (pc := 37) (xr_I (as := [_]) ok_J2_init rfl (by decide) q159 q160 rfl rfl dX2_init_37 rfl rfl (Nat.le_of_ble_eq_true rfl)) ((show XM M_J2_init (d + 7) [.ref (xsz (xsetR (xLN (xsetR (xLN g (1000 * q + 1) 10) q 0 (some (xsz g))) (1000 * q + 2) 16) q 1 (some (xsz g + 2)))), .int (nI 12)] (xNew (xsetR (xLN (xsetR (xLN g (1000 * q + 1) 10) q 0 (some (xsz g))) (1000 * q + 2) 16) q 1 (some (xsz g + 2))) (xBlank 18 (1000 * q + 3) 3) 3) (xOne none (xLN (xsetR (xLN (xsetR (xLN g (1000 * q + 1) 10) q 0 (some (xsz g))) (1000 * q + 2) 16) q 1 (some (xsz g + 2))) (1000 * q + 3) 12)) from SP_J2_initX (d := d + 4) (by rw [xtag_newS rfl]; rfl) (by rw [xown_newS rfl]; rfl) (by decide) (by decide) (by omega))) ?_
  refine xw_putR (o := (some (xsz g + 4))) (pc := 40) fd_X2_23 (xfin_of (by decide) (by decide +kernel)) dX2_init_40 (by first | assumption | (simp [-List.getD_eq_getElem?_getD, xE_setI, xsz_setI, xsl_setI, xtag_setI, xown_setI, xlen_setI, xE_setR, xsz_setR, xsl_setR, xtag_setR, xown_setR, xlen_setR, xE_setW, xsz_setW, xsl_setW, xtag_setW, xown_setW, xlen_setW, xi_setR, xi_setW, xr_setI, xr_setW, xww_setI, xww_setR, xi_setI, xr_setR, xww_setW, xE_new, xsz_new, xsl_new, ht, t1, t2, t3, o1, o2, o3, xsub]; done) | (simp [-List.getD_eq_getElem?_getD, xE_setI, xsz_setI, xsl_setI, xtag_setI, xown_setI, xlen_setI, xE_setR, xsz_setR, xsl_setR, xtag_setR, xown_setR, xlen_setR, xE_setW, xsz_setW, xsl_setW, xtag_setW, xown_setW, xlen_setW, xi_setR, xi_setW, xr_setI, xr_setW, xww_setI, xww_setR, xi_setI, xr_setR, xww_setW, xE_new, xsz_new, xsl_new, ht, t1, t2, t3, o1, o2, o3] <;> rfl)) (by first | assumption | (simp [-List.getD_eq_getElem?_getD, xE_setI, xsz_setI, xsl_setI, xtag_setI, xown_setI, xlen_setI, xE_setR, xsz_setR, xsl_setR, xtag_setR, xown_setR, xlen_setR, xE_setW, xsz_setW, xsl_setW, xtag_setW, xown_setW, xlen_setW, xi_setR, xi_setW, xr_setI, xr_setW, xww_setI, xww_setR, xi_setI, xr_setR, xww_setW, xE_new, xsz_new, xsl_new, ht, t1, t2, t3, o1, o2, o3]; done) | (simp [-List.getD_eq_getElem?_getD, xE_setI, xsz_setI, xsl_setI, xtag_setI, xown_setI, xlen_setI, xE_setR, xsz_setR, xsl_setR, xtag_setR, xown_setR, xlen_setR, xE_setW, xsz_setW, xsl_setW, xtag_setW, xown_setW, xlen_setW, xi_setR, xi_setW, xr_setI, xr_setW, xww_setI, xww_setR, xi_setI, xr_setR, xww_setW, xE_new, xsz_new, xsl_new, ht, t1, t2, t3, o1, o2, o3]; assumption)) rfl ?_
  exact tl_X2_init hq (xPI_cp (g := g) (T := fun _ => []) ht ho hq) ((xPI.fr (xFr.rf (n := 0)) hlq (Or.inr (by rw [ho]; exact ⟨by omega, by omega⟩))).sub (fun _ h => h) (by omega))

theorem SP_X5_init {d : Nat} {g : xG} {lk x : Nat} (h : xLk1 g lk (fun _ => none)) : XM M_X5_init (d + 1) [.ref lk, .ref x] g (xVoid (fun g' => ∃ fa ka la, xLb g' x lk fa ka la ∧ xFr (oEq 6) 40 g g')) := by
  have tg : xtag g lk = 4 := h.1
  have on : xown g lk ≠ 0 := by rw [h.2.1]; decide
  refine xm_of (by decide +kernel) (Nat.le_of_ble_eq_true rfl) ?_
  show XW _ _ 0 [(0, _), (1, _)] [] _ _
  refine xw_aload_n (pc := 0) dX5_init_0 0 rfl ?_
  refine xw_aload_n (pc := 1) dX5_init_1 1 rfl ?_
  refine xw_putR (o := (some x)) (pc := 2) fd_X5_3 (xfin_of (by decide) (by decide +kernel)) dX5_init_2 (by first | assumption | (simp [-List.getD_eq_getElem?_getD, xE_setI, xsz_setI, xsl_setI, xtag_setI, xown_setI, xlen_setI, xE_setR, xsz_setR, xsl_setR, xtag_setR, xown_setR, xlen_setR, xE_setW, xsz_setW, xsl_setW, xtag_setW, xown_setW, xlen_setW, xi_setR, xi_setW, xr_setI, xr_setW, xww_setI, xww_setR, xi_setI, xr_setR, xww_setW, xE_new, xsz_new, xsl_new, tg, on, xsub]; done) | (simp [-List.getD_eq_getElem?_getD, xE_setI, xsz_setI, xsl_setI, xtag_setI, xown_setI, xlen_setI, xE_setR, xsz_setR, xsl_setR, xtag_setR, xown_setR, xlen_setR, xE_setW, xsz_setW, xsl_setW, xtag_setW, xown_setW, xlen_setW, xi_setR, xi_setW, xr_setI, xr_setW, xww_setI, xww_setR, xi_setI, xr_setR, xww_setW, xE_new, xsz_new, xsl_new, tg, on] <;> rfl)) (by first | assumption | (simp [-List.getD_eq_getElem?_getD, xE_setI, xsz_setI, xsl_setI, xtag_setI, xown_setI, xlen_setI, xE_setR, xsz_setR, xsl_setR, xtag_setR, xown_setR, xlen_setR, xE_setW, xsz_setW, xsl_setW, xtag_setW, xown_setW, xlen_setW, xi_setR, xi_setW, xr_setI, xr_setW, xww_setI, xww_setR, xi_setI, xr_setR, xww_setW, xE_new, xsz_new, xsl_new, tg, on]; done) | (simp [-List.getD_eq_getElem?_getD, xE_setI, xsz_setI, xsl_setI, xtag_setI, xown_setI, xlen_setI, xE_setR, xsz_setR, xsl_setR, xtag_setR, xown_setR, xlen_setR, xE_setW, xsz_setW, xsl_setW, xtag_setW, xown_setW, xlen_setW, xi_setR, xi_setW, xr_setI, xr_setW, xww_setI, xww_setR, xi_setI, xr_setR, xww_setW, xE_new, xsz_new, xsl_new, tg, on]; assumption)) rfl ?_
  have k0 := h.put (j := 7) (v := some x)
  have F0 : xFr (oEq 6) 0 g (xsetR g lk 7 (some x)) := xFr.rf.sr (Or.inr h.2.1)
  generalize (xsetR g lk 7 (some x)) = h0 at k0 F0 ⊢
  have tg0 : xtag h0 lk = 4 := k0.1
  have on0 : xown h0 lk ≠ 0 := by rw [k0.2.1]; decide
  refine xw_aload_n (pc := 5) dX5_init_5 0 rfl ?_
  refine xw_objInit (pc := 6) dX5_init_6 q629 (Nat.le_of_ble_eq_true rfl) ?_
  refine xw_aload_n (pc := 9) dX5_init_9 0 rfl ?_
  refine xw_bipush (v := nI 6) (pc := 10) dX5_init_10 (by decide +kernel) ?_
  refine xw_newa_int (n := 6) (pc := 12) 6 dX5_init_12 q655 (by first | decide | assumption | omega) rfl (by omega) ?_
  refine xw_at (a := (xsz h0)) (by rfl) ?_
  have tp1 : xtag (xNew h0 (xBlank 101 6 6) 6) lk = 4 := (k0.nw).1
  have op1 : xown (xNew h0 (xBlank 101 6 6) 6) lk ≠ 0 := by rw [(k0.nw (c := xBlank 101 6 6) (k := 6)).2.1]; decide
  refine xw_putR (o := (some (xsz h0))) (pc := 14) fd_X5_15 (xfin_of (by decide) (by decide +kernel)) dX5_init_14 (by first | assumption | (simp [-List.getD_eq_getElem?_getD, xE_setI, xsz_setI, xsl_setI, xtag_setI, xown_setI, xlen_setI, xE_setR, xsz_setR, xsl_setR, xtag_setR, xown_setR, xlen_setR, xE_setW, xsz_setW, xsl_setW, xtag_setW, xown_setW, xlen_setW, xi_setR, xi_setW, xr_setI, xr_setW, xww_setI, xww_setR, xi_setI, xr_setR, xww_setW, xE_new, xsz_new, xsl_new, tg, on, tg0, on0, tp1, op1, xsub]; done) | (simp [-List.getD_eq_getElem?_getD, xE_setI, xsz_setI, xsl_setI, xtag_setI, xown_setI, xlen_setI, xE_setR, xsz_setR, xsl_setR, xtag_setR, xown_setR, xlen_setR, xE_setW, xsz_setW, xsl_setW, xtag_setW, xown_setW, xlen_setW, xi_setR, xi_setW, xr_setI, xr_setW, xww_setI, xww_setR, xi_setI, xr_setR, xww_setW, xE_new, xsz_new, xsl_new, tg, on, tg0, on0, tp1, op1] <;> rfl)) (by first | assumption | (simp [-List.getD_eq_getElem?_getD, xE_setI, xsz_setI, xsl_setI, xtag_setI, xown_setI, xlen_setI, xE_setR, xsz_setR, xsl_setR, xtag_setR, xown_setR, xlen_setR, xE_setW, xsz_setW, xsl_setW, xtag_setW, xown_setW, xlen_setW, xi_setR, xi_setW, xr_setI, xr_setW, xww_setI, xww_setR, xi_setI, xr_setR, xww_setW, xE_new, xsz_new, xsl_new, tg, on, tg0, on0, tp1, op1]; done) | (simp [-List.getD_eq_getElem?_getD, xE_setI, xsz_setI, xsl_setI, xtag_setI, xown_setI, xlen_setI, xE_setR, xsz_setR, xsl_setR, xtag_setR, xown_setR, xlen_setR, xE_setW, xsz_setW, xsl_setW, xtag_setW, xown_setW, xlen_setW, xi_setR, xi_setW, xr_setI, xr_setW, xww_setI, xww_setR, xi_setI, xr_setR, xww_setW, xE_new, xsz_new, xsl_new, tg, on, tg0, on0, tp1, op1]; assumption)) rfl ?_
  have k1 := (k0.nw (c := xBlank 101 6 6) (k := 6)).put (j := 0) (v := some (xsz h0))
  have a1 := xLa.new (g := h0) (n := 6) (lk := lk) (j := 0) (v := some (xsz h0)) (Nat.ne_of_lt k0.lt)
  have F1 : xFr (oEq 6) 7 h0 (xsetR (xNew h0 (xBlank 101 6 6) 6) lk 0 (some (xsz h0))) := ((xFr.rf (n := 0)).nw.sr (Or.inr ((k0.nw (c := xBlank 101 6 6) (k := 6)).2.1))).sub (fun _ h => h) (by omega)
  have z1 : xsz (xsetR (xNew h0 (xBlank 101 6 6) 6) lk 0 (some (xsz h0))) = xsz h0 + 1 := by rw [xsz_setR, xsz_new]
  generalize (xsetR (xNew h0 (xBlank 101 6 6) 6) lk 0 (some (xsz h0))) = h1 at k1 a1 F1 z1 ⊢
  have tg1 : xtag h1 lk = 4 := k1.1
  have on1 : xown h1 lk ≠ 0 := by rw [k1.2.1]; decide
  refine xw_aload_n (pc := 17) dX5_init_17 0 rfl ?_
  refine xw_bipush (v := nI 16) (pc := 18) dX5_init_18 (by decide +kernel) ?_
  refine xw_newa_int (n := 16) (pc := 20) 6 dX5_init_20 q655 (by first | decide | assumption | omega) rfl (by omega) ?_
  refine xw_at (a := (xsz h1)) (by rfl) ?_
  have tp2 : xtag (xNew h1 (xBlank 101 6 16) 16) lk = 4 := (k1.nw).1
  have op2 : xown (xNew h1 (xBlank 101 6 16) 16) lk ≠ 0 := by rw [(k1.nw (c := xBlank 101 6 16) (k := 16)).2.1]; decide
  refine xw_putR (o := (some (xsz h1))) (pc := 22) fd_X5_19 (xfin_of (by decide) (by decide +kernel)) dX5_init_22 (by first | assumption | (simp [-List.getD_eq_getElem?_getD, xE_setI, xsz_setI, xsl_setI, xtag_setI, xown_setI, xlen_setI, xE_setR, xsz_setR, xsl_setR, xtag_setR, xown_setR, xlen_setR, xE_setW, xsz_setW, xsl_setW, xtag_setW, xown_setW, xlen_setW, xi_setR, xi_setW, xr_setI, xr_setW, xww_setI, xww_setR, xi_setI, xr_setR, xww_setW, xE_new, xsz_new, xsl_new, tg, on, tg0, on0, tp1, op1, tg1, on1, tp2, op2, xsub]; done) | (simp [-List.getD_eq_getElem?_getD, xE_setI, xsz_setI, xsl_setI, xtag_setI, xown_setI, xlen_setI, xE_setR, xsz_setR, xsl_setR, xtag_setR, xown_setR, xlen_setR, xE_setW, xsz_setW, xsl_setW, xtag_setW, xown_setW, xlen_setW, xi_setR, xi_setW, xr_setI, xr_setW, xww_setI, xww_setR, xi_setI, xr_setR, xww_setW, xE_new, xsz_new, xsl_new, tg, on, tg0, on0, tp1, op1, tg1, on1, tp2, op2] <;> rfl)) (by first | assumption | (simp [-List.getD_eq_getElem?_getD, xE_setI, xsz_setI, xsl_setI, xtag_setI, xown_setI, xlen_setI, xE_setR, xsz_setR, xsl_setR, xtag_setR, xown_setR, xlen_setR, xE_setW, xsz_setW, xsl_setW, xtag_setW, xown_setW, xlen_setW, xi_setR, xi_setW, xr_setI, xr_setW, xww_setI, xww_setR, xi_setI, xr_setR, xww_setW, xE_new, xsz_new, xsl_new, tg, on, tg0, on0, tp1, op1, tg1, on1, tp2, op2]; done) | (simp [-List.getD_eq_getElem?_getD, xE_setI, xsz_setI, xsl_setI, xtag_setI, xown_setI, xlen_setI, xE_setR, xsz_setR, xsl_setR, xtag_setR, xown_setR, xlen_setR, xE_setW, xsz_setW, xsl_setW, xtag_setW, xown_setW, xlen_setW, xi_setR, xi_setW, xr_setI, xr_setW, xww_setI, xww_setR, xi_setI, xr_setR, xww_setW, xE_new, xsz_new, xsl_new, tg, on, tg0, on0, tp1, op1, tg1, on1, tp2, op2]; assumption)) rfl ?_
  have k2 := (k1.nw (c := xBlank 101 6 16) (k := 16)).put (j := 1) (v := some (xsz h1))
  have a2 := xLa.new (g := h1) (n := 16) (lk := lk) (j := 1) (v := some (xsz h1)) (Nat.ne_of_lt k1.lt)
  have F2 : xFr (oEq 6) 17 h1 (xsetR (xNew h1 (xBlank 101 6 16) 16) lk 1 (some (xsz h1))) := ((xFr.rf (n := 0)).nw.sr (Or.inr ((k1.nw (c := xBlank 101 6 16) (k := 16)).2.1))).sub (fun _ h => h) (by omega)
  have z2 : xsz (xsetR (xNew h1 (xBlank 101 6 16) 16) lk 1 (some (xsz h1))) = xsz h1 + 1 := by rw [xsz_setR, xsz_new]
  generalize (xsetR (xNew h1 (xBlank 101 6 16) 16) lk 1 (some (xsz h1))) = h2 at k2 a2 F2 z2 ⊢
  have tg2 : xtag h2 lk = 4 := k2.1
  have on2 : xown h2 lk ≠ 0 := by rw [k2.2.1]; decide
  refine xw_aload_n (pc := 25) dX5_init_25 0 rfl ?_
  refine xw_iconst (v := nI 5) (pc := 26) dX5_init_26 rfl ?_
  refine xw_newa_int (n := 5) (pc := 27) 6 dX5_init_27 q655 (by first | decide | assumption | omega) rfl (by omega) ?_
  refine xw_at (a := (xsz h2)) (by rfl) ?_
  have tp3 : xtag (xNew h2 (xBlank 101 6 5) 5) lk = 4 := (k2.nw).1
  have op3 : xown (xNew h2 (xBlank 101 6 5) 5) lk ≠ 0 := by rw [(k2.nw (c := xBlank 101 6 5) (k := 5)).2.1]; decide
  refine xw_putR (o := (some (xsz h2))) (pc := 29) fd_X5_22 (xfin_of (by decide) (by decide +kernel)) dX5_init_29 (by first | assumption | (simp [-List.getD_eq_getElem?_getD, xE_setI, xsz_setI, xsl_setI, xtag_setI, xown_setI, xlen_setI, xE_setR, xsz_setR, xsl_setR, xtag_setR, xown_setR, xlen_setR, xE_setW, xsz_setW, xsl_setW, xtag_setW, xown_setW, xlen_setW, xi_setR, xi_setW, xr_setI, xr_setW, xww_setI, xww_setR, xi_setI, xr_setR, xww_setW, xE_new, xsz_new, xsl_new, tg, on, tg0, on0, tp1, op1, tg1, on1, tp2, op2, tg2, on2, tp3, op3, xsub]; done) | (simp [-List.getD_eq_getElem?_getD, xE_setI, xsz_setI, xsl_setI, xtag_setI, xown_setI, xlen_setI, xE_setR, xsz_setR, xsl_setR, xtag_setR, xown_setR, xlen_setR, xE_setW, xsz_setW, xsl_setW, xtag_setW, xown_setW, xlen_setW, xi_setR, xi_setW, xr_setI, xr_setW, xww_setI, xww_setR, xi_setI, xr_setR, xww_setW, xE_new, xsz_new, xsl_new, tg, on, tg0, on0, tp1, op1, tg1, on1, tp2, op2, tg2, on2, tp3, op3] <;> rfl)) (by first | assumption | (simp [-List.getD_eq_getElem?_getD, xE_setI, xsz_setI, xsl_setI, xtag_setI, xown_setI, xlen_setI, xE_setR, xsz_setR, xsl_setR, xtag_setR, xown_setR, xlen_setR, xE_setW, xsz_setW, xsl_setW, xtag_setW, xown_setW, xlen_setW, xi_setR, xi_setW, xr_setI, xr_setW, xww_setI, xww_setR, xi_setI, xr_setR, xww_setW, xE_new, xsz_new, xsl_new, tg, on, tg0, on0, tp1, op1, tg1, on1, tp2, op2, tg2, on2, tp3, op3]; done) | (simp [-List.getD_eq_getElem?_getD, xE_setI, xsz_setI, xsl_setI, xtag_setI, xown_setI, xlen_setI, xE_setR, xsz_setR, xsl_setR, xtag_setR, xown_setR, xlen_setR, xE_setW, xsz_setW, xsl_setW, xtag_setW, xown_setW, xlen_setW, xi_setR, xi_setW, xr_setI, xr_setW, xww_setI, xww_setR, xi_setI, xr_setR, xww_setW, xE_new, xsz_new, xsl_new, tg, on, tg0, on0, tp1, op1, tg1, on1, tp2, op2, tg2, on2, tp3, op3]; assumption)) rfl ?_
  have k3 := (k2.nw (c := xBlank 101 6 5) (k := 5)).put (j := 5) (v := some (xsz h2))
  have a3 := xLa.new (g := h2) (n := 5) (lk := lk) (j := 5) (v := some (xsz h2)) (Nat.ne_of_lt k2.lt)
  have F3 : xFr (oEq 6) 6 h2 (xsetR (xNew h2 (xBlank 101 6 5) 5) lk 5 (some (xsz h2))) := ((xFr.rf (n := 0)).nw.sr (Or.inr ((k2.nw (c := xBlank 101 6 5) (k := 5)).2.1))).sub (fun _ h => h) (by omega)
  have z3 : xsz (xsetR (xNew h2 (xBlank 101 6 5) 5) lk 5 (some (xsz h2))) = xsz h2 + 1 := by rw [xsz_setR, xsz_new]
  generalize (xsetR (xNew h2 (xBlank 101 6 5) 5) lk 5 (some (xsz h2))) = h3 at k3 a3 F3 z3 ⊢
  have tg3 : xtag h3 lk = 4 := k3.1
  have on3 : xown h3 lk ≠ 0 := by rw [k3.2.1]; decide
  refine xw_vret (pc := 32) dX5_init_32 rfl ?_
  have n12 : xsz h0 ≠ xsz h1 := by omega
  have n13 : xsz h0 ≠ xsz h2 := by omega
  have n23 : xsz h1 ≠ xsz h2 := by omega
  have b1 := (a1.fr F2).fr F3
  have b2 := a2.fr F3
  exact ⟨rfl, xsz h0, xsz h1, xsz h2, ⟨⟨k3.1, (k3.2.2 0).trans rfl, (k3.2.2 1).trans rfl, (k3.2.2 5).trans rfl, (k3.2.2 7).trans rfl⟩, ⟨b1.1, b1.2.2, b2.1, b2.2.2, a3.1, a3.2.2⟩, ⟨k3.2.1, b1.2.1, b2.2.1, a3.2.1⟩, Ne.symm n12, n23, n13⟩, (((F0.tr F1).tr F2).tr F3).sub (fun _ h => h) (by omega)⟩

