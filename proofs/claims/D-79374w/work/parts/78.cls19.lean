/-! CLASS 19: rivals; what goes on behind a rule -/
set_option maxRecDepth 100000
/-- the constants of effects are three -/
def xCn (g : xG) : Prop := ∀ i, i < 3 → xtag g ((xE g).2.2.1 i) = 61 + i ∧ xown g ((xE g).2.2.1 i) = 0 ∧ xi g ((xE g).2.2.1 i) 0 = nI i
theorem xCn.fr {O : Nat → Prop} {n : Nat} {g g' : xG} (h : xCn g) (F : xFr O n g g') (h0 : ¬ O 0) : xCn g' := fun i hi => by
  obtain ⟨a, b, c⟩ := h i hi
  have hl : (xE g).2.2.1 i < xsz g := xlt (by rw [a]; omega)
  rw [F.e]
  exact ⟨(F.tag hl).trans a, (F.own hl).trans b, (F.i' hl (by rw [b]; exact h0)).trans c⟩
theorem effO_inj {g : xG} (h : xCn g) {v w : Int32} (hv : v = -1 ∨ ∃ e, e < 3 ∧ v = nI e) (hw : w = -1 ∨ ∃ e, e < 3 ∧ w = nI e) (he : effO g v = effO g w) : v = w := by
  have t0 := (h 0 (by decide)).1
  have t1 := (h 1 (by decide)).1
  have t2 := (h 2 (by decide)).1
  have n01 : (xE g).2.2.1 0 ≠ (xE g).2.2.1 1 := fun e => by rw [e, t1] at t0; omega
  have n02 : (xE g).2.2.1 0 ≠ (xE g).2.2.1 2 := fun e => by rw [e, t2] at t0; omega
  have n12 : (xE g).2.2.1 1 ≠ (xE g).2.2.1 2 := fun e => by rw [e, t2] at t1; omega
  have x0 : effO g (nI 0) = some ((xE g).2.2.1 0) := rfl
  have x1 : effO g (nI 1) = some ((xE g).2.2.1 1) := rfl
  have x2 : effO g (nI 2) = some ((xE g).2.2.1 2) := rfl
  have xm := effO_none (g := g)
  have cases3 : ∀ {u : Int32}, (u = -1 ∨ ∃ e, e < 3 ∧ u = nI e) → u = -1 ∨ u = nI 0 ∨ u = nI 1 ∨ u = nI 2 := by
    intro u hu
    rcases hu with rfl | ⟨e, h1, rfl⟩
    · exact Or.inl rfl
    · have : e = 0 ∨ e = 1 ∨ e = 2 := by omega
      rcases this with rfl | rfl | rfl
      · exact Or.inr (Or.inl rfl)
      · exact Or.inr (Or.inr (Or.inl rfl))
      · exact Or.inr (Or.inr (Or.inr rfl))
  rcases cases3 hv with rfl | rfl | rfl | rfl <;> rcases cases3 hw with rfl | rfl | rfl | rfl <;> simp only [x0, x1, x2, xm, Option.some.injEq, reduceCtorEq] at he <;> first | rfl | exact absurd he n01 | exact absurd he n02 | exact absurd he n12 | exact absurd he.symm n01 | exact absurd he.symm n02 | exact absurd he.symm n12
theorem xref_cat (o : Option Nat) : (xref o).category = 1 := by cases o <;> rfl
theorem ru_eff {s : Nat → Int32} {n rr ww r : Nat} (h : WFS s n rr ww) (hr : r < rr) : s (23 + 20 * r + 0) = -1 ∨ ∃ e, e < 3 ∧ s (23 + 20 * r + 0) = nI e := by
  obtain ⟨-, -, -, -, -, -, -, h8, -⟩ := h.ru hr
  rcases h8 with ⟨q1, q2, q3⟩ | ⟨q2, q3⟩
  · exact Or.inr ⟨_, q3, q2⟩
  · exact Or.inl q3
theorem SP_X5_isRival {d : Nat} {g : xG} {x lk fa ka la p n rr ww k : Nat} {Z : xAd} {s : Nat → Int32} {day feats wo : Int32} {H : Nat → Bool} (hX : xCs g x lk fa ka la p Z s n rr ww k day feats wo H) (hE : xCn g) {a b : Nat} (ha : a < rr) (hb : b < rr) : XM M_X5_isRival (d + 46) [.ref lk, .ref ((aR Z).getD a 0), .ref ((aR Z).getD b 0)] g (xVal (.int (bI (isRv s H b a))) (fun g' => xCs g' x lk fa ka la p Z s n rr ww k day feats wo H ∧ xOnly ka g g')) := by
  have ra := hX.P.ru ha
  have rb := hX.P.ru hb
  have ea := ra.2.2.2.2.2.2.2.2.2.2.2.2
  have eb := rb.2.2.2.2.2.2.2.2.2.2.2.2
  refine xm_of (by decide +kernel) (Nat.le_of_ble_eq_true rfl) ?_
  show XW _ _ 0 [(0, _), (1, _), (2, _)] [] _ _
  refine xw_aload_n (pc := 0) dX5_isRival_0 1 rfl ?_
  refine xw_reffect (pc := 1) ra.1 dX5_isRival_1 q756 (Nat.le_of_ble_eq_true rfl) ?_
  rw [ea]
  refine xw_ifnullQ (pc := 4) 39 dX5_isRival_4 rfl (fun hb4 => ?_) (fun b4 hb4 => ?_)
  · refine xw_iconst (v := nI 0) (pc := 39) dX5_isRival_39 rfl ?_
    refine xw_iret (pc := 40) .boolean dX5_isRival_40 rfl ?_ 
    have e1 := cmp_abv hX.P.wf hb ha
    have hself : a = b → s (23 + 20 * a + 0) = s (23 + 20 * b + 0) := fun e => by rw [e]
    unfold isRv
    first
    | (refine ⟨congrArg (fun x => Sum.inl (some (Value.int x))) ?_, hX, xOnly.rf⟩
       rw [(ma_eff hX.P.wf ha g).mp hb4]
       rfl)
    | (refine ⟨congrArg (fun x => Sum.inl (some (Value.int x))) ?_, hX, xOnly.rf⟩
       have e := effO_inj hE (ru_eff hX.P.wf ha) (ru_eff hX.P.wf hb) hb15
       rw [decide_eq_true e]
       simp only [Bool.not_true, Bool.false_and, Bool.and_false]
       rfl)
    | (refine ⟨congrArg (fun x => Sum.inl (some (Value.int x))) ?_, hc20⟩
       rw [hb23]
       simp only [Bool.false_and, Bool.and_false]
       rfl)
    | (refine ⟨congrArg (fun x => Sum.inl (some (Value.int x))) ?_, hc20⟩
       rw [hma, hb23, decide_eq_false hne, decide_eq_false (fun e => hne (hself e)), decide_eq_true (e1.2.mp hb32)]
       rfl)
    | (refine ⟨congrArg (fun x => Sum.inl (some (Value.int x))) ?_, hc20⟩
       rw [decide_eq_false (fun e => hb32 (e1.2.mpr e))]
       simp only [Bool.false_and, Bool.and_false]
       rfl)
  · have hma : isMa s a = true := by
      cases hm9 : isMa s a with
      | true => rfl
      | false => rw [(ma_eff hX.P.wf ha g).mpr hm9] at hb4; cases hb4
    refine xw_aload_n (pc := 7) dX5_isRival_7 1 rfl ?_
    refine xw_reffect (pc := 8) ra.1 dX5_isRival_8 q756 (Nat.le_of_ble_eq_true rfl) ?_
    refine xw_aload_n (pc := 11) dX5_isRival_11 2 rfl ?_
    refine xw_reffect (pc := 12) rb.1 dX5_isRival_12 q756 (by simp only [List.map, List.sum_cons, List.sum_nil, xref_cat]; omega) ?_
    rw [ea, eb]
    refine xw_acmp_eq (ry := (effO g (s (23 + 20 * b + 0)))) (rx := (effO g (s (23 + 20 * a + 0)))) (pc := 15) 39 dX5_isRival_15 rfl (fun hb15 => ?_) (fun hb15 => ?_)
    · refine xw_iconst (v := nI 0) (pc := 39) dX5_isRival_39 rfl ?_
      refine xw_iret (pc := 40) .boolean dX5_isRival_40 rfl ?_ 
      have e1 := cmp_abv hX.P.wf hb ha
      have hself : a = b → s (23 + 20 * a + 0) = s (23 + 20 * b + 0) := fun e => by rw [e]
      unfold isRv
      first
      | (refine ⟨congrArg (fun x => Sum.inl (some (Value.int x))) ?_, hX, xOnly.rf⟩
         rw [(ma_eff hX.P.wf ha g).mp hb4]
         rfl)
      | (refine ⟨congrArg (fun x => Sum.inl (some (Value.int x))) ?_, hX, xOnly.rf⟩
         have e := effO_inj hE (ru_eff hX.P.wf ha) (ru_eff hX.P.wf hb) hb15
         rw [decide_eq_true e]
         simp only [Bool.not_true, Bool.false_and, Bool.and_false]
         rfl)
      | (refine ⟨congrArg (fun x => Sum.inl (some (Value.int x))) ?_, hc20⟩
         rw [hb23]
         simp only [Bool.false_and, Bool.and_false]
         rfl)
      | (refine ⟨congrArg (fun x => Sum.inl (some (Value.int x))) ?_, hc20⟩
         rw [hma, hb23, decide_eq_false hne, decide_eq_false (fun e => hne (hself e)), decide_eq_true (e1.2.mp hb32)]
         rfl)
      | (refine ⟨congrArg (fun x => Sum.inl (some (Value.int x))) ?_, hc20⟩
         rw [decide_eq_false (fun e => hb32 (e1.2.mpr e))]
         simp only [Bool.false_and, Bool.and_false]
         rfl)
    · have hne : ¬ s (23 + 20 * a + 0) = s (23 + 20 * b + 0) := fun e => hb15 (by rw [e])
      refine xw_aload_n (pc := 18) dX5_isRival_18 0 rfl ?_
      refine xw_aload_n (pc := 19) dX5_isRival_19 1 rfl ?_
      refine xw_callF (pc := 20) (xr_V (as := [_]) ok_X5_holds rfl (by decide) q765 q766 q767 (by first | (rw [hX.lt]; rfl) | (rw [hc20.1.lt]; rfl)) (by first | (rw [hX.lt]; rfl) | (rw [hc20.1.lt]; rfl)) dX5_isRival_20 rfl rfl (Nat.le_of_ble_eq_true rfl)) (SP_X5_holds (d := d) hX ha) ?_
      intro g20 hc20 hm20
      refine xw_if_eq (pc := 23) 39 dX5_isRival_23 rfl (fun hb23 => ?_) (fun hb23 => ?_)
      · replace hb23 := bI_0.mp hb23
        refine xw_iconst (v := nI 0) (pc := 39) dX5_isRival_39 rfl ?_
        refine xw_iret (pc := 40) .boolean dX5_isRival_40 rfl ?_ 
        have e1 := cmp_abv hX.P.wf hb ha
        have hself : a = b → s (23 + 20 * a + 0) = s (23 + 20 * b + 0) := fun e => by rw [e]
        unfold isRv
        first
        | (refine ⟨congrArg (fun x => Sum.inl (some (Value.int x))) ?_, hX, xOnly.rf⟩
           rw [(ma_eff hX.P.wf ha g).mp hb4]
           rfl)
        | (refine ⟨congrArg (fun x => Sum.inl (some (Value.int x))) ?_, hX, xOnly.rf⟩
           have e := effO_inj hE (ru_eff hX.P.wf ha) (ru_eff hX.P.wf hb) hb15
           rw [decide_eq_true e]
           simp only [Bool.not_true, Bool.false_and, Bool.and_false]
           rfl)
        | (refine ⟨congrArg (fun x => Sum.inl (some (Value.int x))) ?_, hc20⟩
           rw [hb23]
           simp only [Bool.false_and, Bool.and_false]
           rfl)
        | (refine ⟨congrArg (fun x => Sum.inl (some (Value.int x))) ?_, hc20⟩
           rw [hma, hb23, decide_eq_false hne, decide_eq_false (fun e => hne (hself e)), decide_eq_true (e1.2.mp hb32)]
           rfl)
        | (refine ⟨congrArg (fun x => Sum.inl (some (Value.int x))) ?_, hc20⟩
           rw [decide_eq_false (fun e => hb32 (e1.2.mpr e))]
           simp only [Bool.false_and, Bool.and_false]
           rfl)
      · replace hb23 := bI_n0.mp hb23
        refine xw_aload_n (pc := 26) dX5_isRival_26 0 rfl ?_
        refine xw_aload_n (pc := 27) dX5_isRival_27 2 rfl ?_
        refine xw_aload_n (pc := 28) dX5_isRival_28 1 rfl ?_
        refine xw_callV (pc := 29) (xr_V (as := [_, _]) ok_X5_compared rfl (by decide) q847 q849 qs9 (by first | (rw [hX.lt]; rfl) | (rw [hc20.1.lt]; rfl)) (by first | (rw [hX.lt]; rfl) | (rw [hc20.1.lt]; rfl)) dX5_isRival_29 rfl rfl (Nat.le_of_ble_eq_true rfl)) (SP_X5_compared (d := d + 32) hc20.1 hb ha) ?_
        refine xw_if_ne (pc := 32) 39 dX5_isRival_32 rfl (fun hb32 => ?_) (fun hb32 => ?_)
        · refine xw_iconst (v := nI 0) (pc := 39) dX5_isRival_39 rfl ?_
          refine xw_iret (pc := 40) .boolean dX5_isRival_40 rfl ?_ 
          have e1 := cmp_abv hX.P.wf hb ha
          have hself : a = b → s (23 + 20 * a + 0) = s (23 + 20 * b + 0) := fun e => by rw [e]
          unfold isRv
          first
          | (refine ⟨congrArg (fun x => Sum.inl (some (Value.int x))) ?_, hX, xOnly.rf⟩
             rw [(ma_eff hX.P.wf ha g).mp hb4]
             rfl)
          | (refine ⟨congrArg (fun x => Sum.inl (some (Value.int x))) ?_, hX, xOnly.rf⟩
             have e := effO_inj hE (ru_eff hX.P.wf ha) (ru_eff hX.P.wf hb) hb15
             rw [decide_eq_true e]
             simp only [Bool.not_true, Bool.false_and, Bool.and_false]
             rfl)
          | (refine ⟨congrArg (fun x => Sum.inl (some (Value.int x))) ?_, hc20⟩
             rw [hb23]
             simp only [Bool.false_and, Bool.and_false]
             rfl)
          | (refine ⟨congrArg (fun x => Sum.inl (some (Value.int x))) ?_, hc20⟩
             rw [hma, hb23, decide_eq_false hne, decide_eq_false (fun e => hne (hself e)), decide_eq_true (e1.2.mp hb32)]
             rfl)
          | (refine ⟨congrArg (fun x => Sum.inl (some (Value.int x))) ?_, hc20⟩
             rw [decide_eq_false (fun e => hb32 (e1.2.mpr e))]
             simp only [Bool.false_and, Bool.and_false]
             rfl)
        · refine xw_iconst (v := nI 1) (pc := 35) dX5_isRival_35 rfl ?_
          refine xw_goto (pc := 36) 40 dX5_isRival_36 rfl ?_
          refine xw_iret (pc := 40) .boolean dX5_isRival_40 rfl ?_ 
          have e1 := cmp_abv hX.P.wf hb ha
          have hself : a = b → s (23 + 20 * a + 0) = s (23 + 20 * b + 0) := fun e => by rw [e]
          unfold isRv
          first
          | (refine ⟨congrArg (fun x => Sum.inl (some (Value.int x))) ?_, hX, xOnly.rf⟩
             rw [(ma_eff hX.P.wf ha g).mp hb4]
             rfl)
          | (refine ⟨congrArg (fun x => Sum.inl (some (Value.int x))) ?_, hX, xOnly.rf⟩
             have e := effO_inj hE (ru_eff hX.P.wf ha) (ru_eff hX.P.wf hb) hb15
             rw [decide_eq_true e]
             simp only [Bool.not_true, Bool.false_and, Bool.and_false]
             rfl)
          | (refine ⟨congrArg (fun x => Sum.inl (some (Value.int x))) ?_, hc20⟩
             rw [hb23]
             simp only [Bool.false_and, Bool.and_false]
             rfl)
          | (refine ⟨congrArg (fun x => Sum.inl (some (Value.int x))) ?_, hc20⟩
             rw [hma, hb23, decide_eq_false hne, decide_eq_false (fun e => hne (hself e)), decide_eq_true (e1.2.mp hb32)]
             rfl)
          | (refine ⟨congrArg (fun x => Sum.inl (some (Value.int x))) ?_, hc20⟩
             rw [decide_eq_false (fun e => hb32 (e1.2.mpr e))]
             simp only [Bool.false_and, Bool.and_false]
             rfl)

theorem lp_X5_rivals {d f : Nat} {x lk fa ka la p n rr ww k : Nat} {Z : xAd} {s : Nat → Int32} {day feats wo : Int32} {H : Nat → Bool} {g0 : xG} (hE0 : xCn g0) (hf : f < rr) : ∀ (j i : Nat) (g : xG), rr - i < j → i ≤ rr → xCs g x lk fa ka la p Z s n rr ww k day feats wo H → xOnly ka g0 g → XW M_X5_rivals (d + 47) 9 [(3, .int (nI i)), (2, .int (bset (isRv s H f) i)), (1, .ref ((aR Z).getD f 0)), (0, .ref lk)] [] g (xVal (.int (bset (isRv s H f) rr)) (fun g' => xCs g' x lk fa ka la p Z s n rr ww k day feats wo H ∧ xOnly ka g0 g')) := by
  intro j
  induction j with
  | zero => intro i g h; omega
  | succ j ih =>
    intro i g hij hi2 hX hO
    have r16 := hX.P.wf.r16
    have lr := hX.P.lr
    have hti : i < rr → xtag g ((aR Z).getD i 0) = 6 ∨ xtag g ((aR Z).getD i 0) = 7 := fun hi => (hX.P.ru hi).1
    have hst : bset (isRv s H f) (i + 1) = bset (isRv s H f) i ||| (if isRv s H f i then nI 1 <<< (nI i &&& 31) else nI 0) := rfl
    have hE : xCn g := by
      by_cases hr0 : 0 < rr
      · have k6 := hX.kao6
        rw [(hO.2.2.2.1 ka).2.1] at k6
        exact hE0.fr (hO.fr k6) (by unfold oEq; omega)
      · omega
    refine xw_iload_n (pc := 9) dX5_rivals_9 0 rfl ?_
    refine xw_aload_n (pc := 10) dX5_rivals_10 3 rfl ?_
    refine xw_getS (b := x) (pc := 11) fd_X5_3 dX5_rivals_11 (by first | assumption | (simp [-List.getD_eq_getElem?_getD, xE_setI, xsz_setI, xsl_setI, xtag_setI, xown_setI, xlen_setI, xE_setR, xsz_setR, xsl_setR, xtag_setR, xown_setR, xlen_setR, xE_setW, xsz_setW, xsl_setW, xtag_setW, xown_setW, xlen_setW, xi_setR, xi_setW, xr_setI, xr_setW, xww_setI, xww_setR, xi_setI, xr_setR, xww_setW, xE_new, xsz_new, xsl_new, hX.tx, hX.xp, hX.P.tag, hX.P.f0, hX.P.f1, hX.P.f2, hX.lt, hX.l0, hX.l1, hX.l5, hX.l2, hX.l7, hX.fat, hX.kat, hX.lat, hX.kao, xsub]; done) | (simp [-List.getD_eq_getElem?_getD, xE_setI, xsz_setI, xsl_setI, xtag_setI, xown_setI, xlen_setI, xE_setR, xsz_setR, xsl_setR, xtag_setR, xown_setR, xlen_setR, xE_setW, xsz_setW, xsl_setW, xtag_setW, xown_setW, xlen_setW, xi_setR, xi_setW, xr_setI, xr_setW, xww_setI, xww_setR, xi_setI, xr_setR, xww_setW, xE_new, xsz_new, xsl_new, hX.tx, hX.xp, hX.P.tag, hX.P.f0, hX.P.f1, hX.P.f2, hX.lt, hX.l0, hX.l1, hX.l5, hX.l2, hX.l7, hX.fat, hX.kat, hX.lat, hX.kao] <;> rfl)) (by simp [-List.getD_eq_getElem?_getD, xE_setI, xsz_setI, xsl_setI, xtag_setI, xown_setI, xlen_setI, xE_setR, xsz_setR, xsl_setR, xtag_setR, xown_setR, xlen_setR, xE_setW, xsz_setW, xsl_setW, xtag_setW, xown_setW, xlen_setW, xi_setR, xi_setW, xr_setI, xr_setW, xww_setI, xww_setR, xi_setI, xr_setR, xww_setW, xE_new, xsz_new, xsl_new, hX.tx, hX.xp, hX.P.tag, hX.P.f0, hX.P.f1, hX.P.f2, hX.lt, hX.l0, hX.l1, hX.l5, hX.l2, hX.l7, hX.fat, hX.kat, hX.lat, hX.kao]) ?_
    refine xw_getS (b := p) (pc := 14) fd_X5_25 dX5_rivals_14 (by first | assumption | (simp [-List.getD_eq_getElem?_getD, xE_setI, xsz_setI, xsl_setI, xtag_setI, xown_setI, xlen_setI, xE_setR, xsz_setR, xsl_setR, xtag_setR, xown_setR, xlen_setR, xE_setW, xsz_setW, xsl_setW, xtag_setW, xown_setW, xlen_setW, xi_setR, xi_setW, xr_setI, xr_setW, xww_setI, xww_setR, xi_setI, xr_setR, xww_setW, xE_new, xsz_new, xsl_new, hX.tx, hX.xp, hX.P.tag, hX.P.f0, hX.P.f1, hX.P.f2, hX.lt, hX.l0, hX.l1, hX.l5, hX.l2, hX.l7, hX.fat, hX.kat, hX.lat, hX.kao, xsub]; done) | (simp [-List.getD_eq_getElem?_getD, xE_setI, xsz_setI, xsl_setI, xtag_setI, xown_setI, xlen_setI, xE_setR, xsz_setR, xsl_setR, xtag_setR, xown_setR, xlen_setR, xE_setW, xsz_setW, xsl_setW, xtag_setW, xown_setW, xlen_setW, xi_setR, xi_setW, xr_setI, xr_setW, xww_setI, xww_setR, xi_setI, xr_setR, xww_setW, xE_new, xsz_new, xsl_new, hX.tx, hX.xp, hX.P.tag, hX.P.f0, hX.P.f1, hX.P.f2, hX.lt, hX.l0, hX.l1, hX.l5, hX.l2, hX.l7, hX.fat, hX.kat, hX.lat, hX.kao] <;> rfl)) (by simp [-List.getD_eq_getElem?_getD, xE_setI, xsz_setI, xsl_setI, xtag_setI, xown_setI, xlen_setI, xE_setR, xsz_setR, xsl_setR, xtag_setR, xown_setR, xlen_setR, xE_setW, xsz_setW, xsl_setW, xtag_setW, xown_setW, xlen_setW, xi_setR, xi_setW, xr_setI, xr_setW, xww_setI, xww_setR, xi_setI, xr_setR, xww_setW, xE_new, xsz_new, xsl_new, hX.tx, hX.xp, hX.P.tag, hX.P.f0, hX.P.f1, hX.P.f2, hX.lt, hX.l0, hX.l1, hX.l5, hX.l2, hX.l7, hX.fat, hX.kat, hX.lat, hX.kao]) ?_
    refine xw_getS (b := (aL Z 2)) (pc := 17) fd_X5_92 dX5_rivals_17 (by first | assumption | (simp [-List.getD_eq_getElem?_getD, xE_setI, xsz_setI, xsl_setI, xtag_setI, xown_setI, xlen_setI, xE_setR, xsz_setR, xsl_setR, xtag_setR, xown_setR, xlen_setR, xE_setW, xsz_setW, xsl_setW, xtag_setW, xown_setW, xlen_setW, xi_setR, xi_setW, xr_setI, xr_setW, xww_setI, xww_setR, xi_setI, xr_setR, xww_setW, xE_new, xsz_new, xsl_new, hX.tx, hX.xp, hX.P.tag, hX.P.f0, hX.P.f1, hX.P.f2, hX.lt, hX.l0, hX.l1, hX.l5, hX.l2, hX.l7, hX.fat, hX.kat, hX.lat, hX.kao, xsub]; done) | (simp [-List.getD_eq_getElem?_getD, xE_setI, xsz_setI, xsl_setI, xtag_setI, xown_setI, xlen_setI, xE_setR, xsz_setR, xsl_setR, xtag_setR, xown_setR, xlen_setR, xE_setW, xsz_setW, xsl_setW, xtag_setW, xown_setW, xlen_setW, xi_setR, xi_setW, xr_setI, xr_setW, xww_setI, xww_setR, xi_setI, xr_setR, xww_setW, xE_new, xsz_new, xsl_new, hX.tx, hX.xp, hX.P.tag, hX.P.f0, hX.P.f1, hX.P.f2, hX.lt, hX.l0, hX.l1, hX.l5, hX.l2, hX.l7, hX.fat, hX.kat, hX.lat, hX.kao] <;> rfl)) (by simp [-List.getD_eq_getElem?_getD, xE_setI, xsz_setI, xsl_setI, xtag_setI, xown_setI, xlen_setI, xE_setR, xsz_setR, xsl_setR, xtag_setR, xown_setR, xlen_setR, xE_setW, xsz_setW, xsl_setW, xtag_setW, xown_setW, xlen_setW, xi_setR, xi_setW, xr_setI, xr_setW, xww_setI, xww_setR, xi_setI, xr_setR, xww_setW, xE_new, xsz_new, xsl_new, hX.tx, hX.xp, hX.P.tag, hX.P.f0, hX.P.f1, hX.P.f2, hX.lt, hX.l0, hX.l1, hX.l5, hX.l2, hX.l7, hX.fat, hX.kat, hX.lat, hX.kao]) ?_
    refine xw_callV (pc := 20) (xr_V (as := []) ok_J2_size rfl (by decide) q754 q702 q703 (by rw [hX.P.l1.1]; rfl) (by rw [hX.P.l1.1]; rfl) dX5_rivals_20 rfl rfl (Nat.le_of_ble_eq_true rfl)) (SP_J2_size hX.P.l1) ?_
    refine xw_icmp_ge (pc := 23) 71 dX5_rivals_23 rfl (fun hb23 => ?_) (fun hb23 => ?_)
    · replace hb23 : (aR Z).length ≤ i := (nI_leI (a := (aR Z).length) (b := i) (by omega) (by omega)).mp hb23
      refine xw_iload_n (pc := 71) dX5_rivals_71 1 rfl ?_
      refine xw_iret (pc := 72) .int dX5_rivals_72 rfl ?_ 
      have ei : i = rr := by omega
      subst ei
      exact ⟨rfl, hX, hO⟩
    · replace hb23 : ¬ ((aR Z).length ≤ i) := mt (nI_leI (a := (aR Z).length) (b := i) (by omega) (by omega)).mpr hb23
      have hil : i < rr := by omega
      refine xw_aload_n (pc := 26) dX5_rivals_26 2 rfl ?_
      refine xw_ifnull (pc := 27) dX5_rivals_27 ?_
      refine xw_iload_n (pc := 30) dX5_rivals_30 1 rfl ?_
      refine xw_aload_n (pc := 31) dX5_rivals_31 3 rfl ?_
      refine xw_aload_n (pc := 32) dX5_rivals_32 3 rfl ?_
      refine xw_getS (b := x) (pc := 33) fd_X5_3 dX5_rivals_33 (by first | assumption | (simp [-List.getD_eq_getElem?_getD, xE_setI, xsz_setI, xsl_setI, xtag_setI, xown_setI, xlen_setI, xE_setR, xsz_setR, xsl_setR, xtag_setR, xown_setR, xlen_setR, xE_setW, xsz_setW, xsl_setW, xtag_setW, xown_setW, xlen_setW, xi_setR, xi_setW, xr_setI, xr_setW, xww_setI, xww_setR, xi_setI, xr_setR, xww_setW, xE_new, xsz_new, xsl_new, hX.tx, hX.xp, hX.P.tag, hX.P.f0, hX.P.f1, hX.P.f2, hX.lt, hX.l0, hX.l1, hX.l5, hX.l2, hX.l7, hX.fat, hX.kat, hX.lat, hX.kao, xsub]; done) | (simp [-List.getD_eq_getElem?_getD, xE_setI, xsz_setI, xsl_setI, xtag_setI, xown_setI, xlen_setI, xE_setR, xsz_setR, xsl_setR, xtag_setR, xown_setR, xlen_setR, xE_setW, xsz_setW, xsl_setW, xtag_setW, xown_setW, xlen_setW, xi_setR, xi_setW, xr_setI, xr_setW, xww_setI, xww_setR, xi_setI, xr_setR, xww_setW, xE_new, xsz_new, xsl_new, hX.tx, hX.xp, hX.P.tag, hX.P.f0, hX.P.f1, hX.P.f2, hX.lt, hX.l0, hX.l1, hX.l5, hX.l2, hX.l7, hX.fat, hX.kat, hX.lat, hX.kao] <;> rfl)) (by simp [-List.getD_eq_getElem?_getD, xE_setI, xsz_setI, xsl_setI, xtag_setI, xown_setI, xlen_setI, xE_setR, xsz_setR, xsl_setR, xtag_setR, xown_setR, xlen_setR, xE_setW, xsz_setW, xsl_setW, xtag_setW, xown_setW, xlen_setW, xi_setR, xi_setW, xr_setI, xr_setW, xww_setI, xww_setR, xi_setI, xr_setR, xww_setW, xE_new, xsz_new, xsl_new, hX.tx, hX.xp, hX.P.tag, hX.P.f0, hX.P.f1, hX.P.f2, hX.lt, hX.l0, hX.l1, hX.l5, hX.l2, hX.l7, hX.fat, hX.kat, hX.lat, hX.kao]) ?_
      refine xw_getS (b := p) (pc := 36) fd_X5_25 dX5_rivals_36 (by first | assumption | (simp [-List.getD_eq_getElem?_getD, xE_setI, xsz_setI, xsl_setI, xtag_setI, xown_setI, xlen_setI, xE_setR, xsz_setR, xsl_setR, xtag_setR, xown_setR, xlen_setR, xE_setW, xsz_setW, xsl_setW, xtag_setW, xown_setW, xlen_setW, xi_setR, xi_setW, xr_setI, xr_setW, xww_setI, xww_setR, xi_setI, xr_setR, xww_setW, xE_new, xsz_new, xsl_new, hX.tx, hX.xp, hX.P.tag, hX.P.f0, hX.P.f1, hX.P.f2, hX.lt, hX.l0, hX.l1, hX.l5, hX.l2, hX.l7, hX.fat, hX.kat, hX.lat, hX.kao, xsub]; done) | (simp [-List.getD_eq_getElem?_getD, xE_setI, xsz_setI, xsl_setI, xtag_setI, xown_setI, xlen_setI, xE_setR, xsz_setR, xsl_setR, xtag_setR, xown_setR, xlen_setR, xE_setW, xsz_setW, xsl_setW, xtag_setW, xown_setW, xlen_setW, xi_setR, xi_setW, xr_setI, xr_setW, xww_setI, xww_setR, xi_setI, xr_setR, xww_setW, xE_new, xsz_new, xsl_new, hX.tx, hX.xp, hX.P.tag, hX.P.f0, hX.P.f1, hX.P.f2, hX.lt, hX.l0, hX.l1, hX.l5, hX.l2, hX.l7, hX.fat, hX.kat, hX.lat, hX.kao] <;> rfl)) (by simp [-List.getD_eq_getElem?_getD, xE_setI, xsz_setI, xsl_setI, xtag_setI, xown_setI, xlen_setI, xE_setR, xsz_setR, xsl_setR, xtag_setR, xown_setR, xlen_setR, xE_setW, xsz_setW, xsl_setW, xtag_setW, xown_setW, xlen_setW, xi_setR, xi_setW, xr_setI, xr_setW, xww_setI, xww_setR, xi_setI, xr_setR, xww_setW, xE_new, xsz_new, xsl_new, hX.tx, hX.xp, hX.P.tag, hX.P.f0, hX.P.f1, hX.P.f2, hX.lt, hX.l0, hX.l1, hX.l5, hX.l2, hX.l7, hX.fat, hX.kat, hX.lat, hX.kao]) ?_
      refine xw_getS (b := (aL Z 2)) (pc := 39) fd_X5_92 dX5_rivals_39 (by first | assumption | (simp [-List.getD_eq_getElem?_getD, xE_setI, xsz_setI, xsl_setI, xtag_setI, xown_setI, xlen_setI, xE_setR, xsz_setR, xsl_setR, xtag_setR, xown_setR, xlen_setR, xE_setW, xsz_setW, xsl_setW, xtag_setW, xown_setW, xlen_setW, xi_setR, xi_setW, xr_setI, xr_setW, xww_setI, xww_setR, xi_setI, xr_setR, xww_setW, xE_new, xsz_new, xsl_new, hX.tx, hX.xp, hX.P.tag, hX.P.f0, hX.P.f1, hX.P.f2, hX.lt, hX.l0, hX.l1, hX.l5, hX.l2, hX.l7, hX.fat, hX.kat, hX.lat, hX.kao, xsub]; done) | (simp [-List.getD_eq_getElem?_getD, xE_setI, xsz_setI, xsl_setI, xtag_setI, xown_setI, xlen_setI, xE_setR, xsz_setR, xsl_setR, xtag_setR, xown_setR, xlen_setR, xE_setW, xsz_setW, xsl_setW, xtag_setW, xown_setW, xlen_setW, xi_setR, xi_setW, xr_setI, xr_setW, xww_setI, xww_setR, xi_setI, xr_setR, xww_setW, xE_new, xsz_new, xsl_new, hX.tx, hX.xp, hX.P.tag, hX.P.f0, hX.P.f1, hX.P.f2, hX.lt, hX.l0, hX.l1, hX.l5, hX.l2, hX.l7, hX.fat, hX.kat, hX.lat, hX.kao] <;> rfl)) (by simp [-List.getD_eq_getElem?_getD, xE_setI, xsz_setI, xsl_setI, xtag_setI, xown_setI, xlen_setI, xE_setR, xsz_setR, xsl_setR, xtag_setR, xown_setR, xlen_setR, xE_setW, xsz_setW, xsl_setW, xtag_setW, xown_setW, xlen_setW, xi_setR, xi_setW, xr_setI, xr_setW, xww_setI, xww_setR, xi_setI, xr_setR, xww_setW, xE_new, xsz_new, xsl_new, hX.tx, hX.xp, hX.P.tag, hX.P.f0, hX.P.f1, hX.P.f2, hX.lt, hX.l0, hX.l1, hX.l5, hX.l2, hX.l7, hX.fat, hX.kat, hX.lat, hX.kao]) ?_
      refine xw_iload_n (pc := 42) dX5_rivals_42 0 rfl ?_
      refine xw_callV (pc := 43) (xr_V (as := [_]) ok_J2_get rfl (by decide) q740 q706 q707 (by rw [hX.P.l1.1]; rfl) (by rw [hX.P.l1.1]; rfl) dX5_rivals_43 rfl rfl (Nat.le_of_ble_eq_true rfl)) (SP_J2_get hX.P.l1 i (by rw [lr]; exact hil)) ?_
      refine xw_chkR (pc := 46) dX5_rivals_46 q755 (by exact hti hil) ?_
      refine xw_aload_n (pc := 49) dX5_rivals_49 2 rfl ?_
      refine xw_callF (pc := 50) (xr_V (as := [_, _]) ok_X5_isRival rfl (by decide) q1574 q1575 q1576 (by rw [hX.lt]; rfl) (by rw [hX.lt]; rfl) dX5_rivals_50 rfl rfl (Nat.le_of_ble_eq_true rfl)) (SP_X5_isRival (d := d) hX hE hil hf) ?_
      intro g50 hc50 hm50
      refine xw_if_eq (pc := 53) 62 dX5_rivals_53 rfl (fun hb53 => ?_) (fun hb53 => ?_)
      · replace hb53 := bI_0.mp hb53
        refine xw_iconst (v := nI 0) (pc := 62) dX5_rivals_62 rfl ?_
        refine xw_ior (pc := 63) dX5_rivals_63 ?_
        refine xw_istore_n (l' := [(2, _), (3, _), (1, _), (0, _)]) (pc := 64) dX5_rivals_64 rfl (by decide) rfl ?_
        refine xw_iinc (v := nI (i + 1)) (l' := [(3, _), (2, _), (1, _), (0, _)]) (pc := 65) dX5_rivals_65 1 rfl (nI_add _ 1) (by decide) rfl ?_
        refine xw_goto (pc := 68) 9 dX5_rivals_68 rfl ?_
        have h9 := ih (i + 1) g50 (by omega) (by omega) hc50.1 (hO.tr hc50.2)
        rw [hst, hb53] at h9
        exact h9
      · replace hb53 := bI_n0.mp hb53
        refine xw_iconst (v := nI 1) (pc := 56) dX5_rivals_56 rfl ?_
        refine xw_iload_n (pc := 57) dX5_rivals_57 0 rfl ?_
        refine xw_ishl (pc := 58) dX5_rivals_58 ?_
        refine xw_goto (pc := 59) 63 dX5_rivals_59 rfl ?_
        refine xw_ior (pc := 63) dX5_rivals_63 ?_
        refine xw_istore_n (l' := [(2, _), (3, _), (1, _), (0, _)]) (pc := 64) dX5_rivals_64 rfl (by decide) rfl ?_
        refine xw_iinc (v := nI (i + 1)) (l' := [(3, _), (2, _), (1, _), (0, _)]) (pc := 65) dX5_rivals_65 1 rfl (nI_add _ 1) (by decide) rfl ?_
        refine xw_goto (pc := 68) 9 dX5_rivals_68 rfl ?_
        have h9 := ih (i + 1) g50 (by omega) (by omega) hc50.1 (hO.tr hc50.2)
        rw [hst, hb53] at h9
        exact h9
theorem bset_no {P : Nat → Bool} (h : ∀ i, P i = false) : ∀ k, bset P k = nI 0 := by
  intro k
  induction k with
  | zero => rfl
  | succ k ih =>
    rw [bset, ih, h k]
    exact or_0 _
theorem SP_X5_rivals {d : Nat} {g : xG} {x lk fa ka la p n rr ww k : Nat} {Z : xAd} {s : Nat → Int32} {day feats wo : Int32} {H : Nat → Bool} (hX : xCs g x lk fa ka la p Z s n rr ww k day feats wo H) (hE : xCn g) : XM M_X5_rivals (d + 47) [.ref lk] g (xVal (.int (bset (rivP s H rr) rr)) (fun g' => xCs g' x lk fa ka la p Z s n rr ww k day feats wo H ∧ xOnly ka g g')) := by
  refine xm_of (by decide +kernel) (Nat.le_of_ble_eq_true rfl) ?_
  show XW _ _ 0 [(0, _)] [] _ _
  refine xw_aload_n (pc := 0) dX5_rivals_0 0 rfl ?_
  refine xw_callF (pc := 1) (xr_V (as := []) ok_X5_prevailing rfl (by decide) q750 q751 q752 (by first | (rw [hX.lt]; rfl) | (rw [hX1.lt]; rfl)) (by first | (rw [hX.lt]; rfl) | (rw [hX1.lt]; rfl)) dX5_rivals_1 rfl rfl (Nat.le_of_ble_eq_true rfl)) (SP_X5_prevailing (d := d) hX) ?_
  intro g1 hc1 hm1
  have hX1 := hc1.1
  cases hpr : prvK s H rr with
  | some f =>
    have hz : rivP s H rr = isRv s H f := by unfold rivP; rw [hpr]
    rw [hz]
    show XW _ _ 4 [(0, _)] [.ref ((aR Z).getD f 0)] _ _
    refine xw_astore_n (l' := [(1, _), (0, _)]) (pc := 4) dX5_rivals_4 rfl (by decide) rfl ?_
    refine xw_iconst (v := nI 0) (pc := 5) dX5_rivals_5 rfl ?_
    refine xw_istore_n (l' := [(2, _), (1, _), (0, _)]) (pc := 6) dX5_rivals_6 rfl (by decide) rfl ?_
    refine xw_iconst (v := nI 0) (pc := 7) dX5_rivals_7 rfl ?_
    refine xw_istore_n (l' := [(3, _), (2, _), (1, _), (0, _)]) (pc := 8) dX5_rivals_8 rfl (by decide) rfl ?_
    exact (lp_X5_rivals (d := d) hE (prvK_lt hpr) (rr + 1) 0 g1 (by omega) (by omega) hc1.1 hc1.2)
  | none =>
    have r16 := hX1.P.wf.r16
    have lr := hX1.P.lr
    show XW _ _ 4 [(0, _)] [.null] _ _
    refine xw_astore_n (l' := [(1, _), (0, _)]) (pc := 4) dX5_rivals_4 rfl (by decide) rfl ?_
    refine xw_iconst (v := nI 0) (pc := 5) dX5_rivals_5 rfl ?_
    refine xw_istore_n (l' := [(2, _), (1, _), (0, _)]) (pc := 6) dX5_rivals_6 rfl (by decide) rfl ?_
    refine xw_iconst (v := nI 0) (pc := 7) dX5_rivals_7 rfl ?_
    refine xw_istore_n (l' := [(3, _), (2, _), (1, _), (0, _)]) (pc := 8) dX5_rivals_8 rfl (by decide) rfl ?_
    refine xw_iload_n (pc := 9) dX5_rivals_9 0 rfl ?_
    refine xw_aload_n (pc := 10) dX5_rivals_10 3 rfl ?_
    refine xw_getS (b := x) (pc := 11) fd_X5_3 dX5_rivals_11 (by first | assumption | (simp [-List.getD_eq_getElem?_getD, xE_setI, xsz_setI, xsl_setI, xtag_setI, xown_setI, xlen_setI, xE_setR, xsz_setR, xsl_setR, xtag_setR, xown_setR, xlen_setR, xE_setW, xsz_setW, xsl_setW, xtag_setW, xown_setW, xlen_setW, xi_setR, xi_setW, xr_setI, xr_setW, xww_setI, xww_setR, xi_setI, xr_setR, xww_setW, xE_new, xsz_new, xsl_new, hX.tx, hX.xp, hX.P.tag, hX.P.f0, hX.P.f1, hX.P.f2, hX.lt, hX.l0, hX.l1, hX.l5, hX.l2, hX.l7, hX.fat, hX.kat, hX.lat, hX.kao, hX1.tx, hX1.xp, hX1.P.tag, hX1.P.f0, hX1.P.f1, hX1.P.f2, hX1.lt, hX1.l0, hX1.l1, hX1.l5, hX1.l2, hX1.l7, hX1.fat, hX1.kat, hX1.lat, hX1.kao, xsub]; done) | (simp [-List.getD_eq_getElem?_getD, xE_setI, xsz_setI, xsl_setI, xtag_setI, xown_setI, xlen_setI, xE_setR, xsz_setR, xsl_setR, xtag_setR, xown_setR, xlen_setR, xE_setW, xsz_setW, xsl_setW, xtag_setW, xown_setW, xlen_setW, xi_setR, xi_setW, xr_setI, xr_setW, xww_setI, xww_setR, xi_setI, xr_setR, xww_setW, xE_new, xsz_new, xsl_new, hX.tx, hX.xp, hX.P.tag, hX.P.f0, hX.P.f1, hX.P.f2, hX.lt, hX.l0, hX.l1, hX.l5, hX.l2, hX.l7, hX.fat, hX.kat, hX.lat, hX.kao, hX1.tx, hX1.xp, hX1.P.tag, hX1.P.f0, hX1.P.f1, hX1.P.f2, hX1.lt, hX1.l0, hX1.l1, hX1.l5, hX1.l2, hX1.l7, hX1.fat, hX1.kat, hX1.lat, hX1.kao] <;> rfl)) (by simp [-List.getD_eq_getElem?_getD, xE_setI, xsz_setI, xsl_setI, xtag_setI, xown_setI, xlen_setI, xE_setR, xsz_setR, xsl_setR, xtag_setR, xown_setR, xlen_setR, xE_setW, xsz_setW, xsl_setW, xtag_setW, xown_setW, xlen_setW, xi_setR, xi_setW, xr_setI, xr_setW, xww_setI, xww_setR, xi_setI, xr_setR, xww_setW, xE_new, xsz_new, xsl_new, hX.tx, hX.xp, hX.P.tag, hX.P.f0, hX.P.f1, hX.P.f2, hX.lt, hX.l0, hX.l1, hX.l5, hX.l2, hX.l7, hX.fat, hX.kat, hX.lat, hX.kao, hX1.tx, hX1.xp, hX1.P.tag, hX1.P.f0, hX1.P.f1, hX1.P.f2, hX1.lt, hX1.l0, hX1.l1, hX1.l5, hX1.l2, hX1.l7, hX1.fat, hX1.kat, hX1.lat, hX1.kao]) ?_
    refine xw_getS (b := p) (pc := 14) fd_X5_25 dX5_rivals_14 (by first | assumption | (simp [-List.getD_eq_getElem?_getD, xE_setI, xsz_setI, xsl_setI, xtag_setI, xown_setI, xlen_setI, xE_setR, xsz_setR, xsl_setR, xtag_setR, xown_setR, xlen_setR, xE_setW, xsz_setW, xsl_setW, xtag_setW, xown_setW, xlen_setW, xi_setR, xi_setW, xr_setI, xr_setW, xww_setI, xww_setR, xi_setI, xr_setR, xww_setW, xE_new, xsz_new, xsl_new, hX.tx, hX.xp, hX.P.tag, hX.P.f0, hX.P.f1, hX.P.f2, hX.lt, hX.l0, hX.l1, hX.l5, hX.l2, hX.l7, hX.fat, hX.kat, hX.lat, hX.kao, hX1.tx, hX1.xp, hX1.P.tag, hX1.P.f0, hX1.P.f1, hX1.P.f2, hX1.lt, hX1.l0, hX1.l1, hX1.l5, hX1.l2, hX1.l7, hX1.fat, hX1.kat, hX1.lat, hX1.kao, xsub]; done) | (simp [-List.getD_eq_getElem?_getD, xE_setI, xsz_setI, xsl_setI, xtag_setI, xown_setI, xlen_setI, xE_setR, xsz_setR, xsl_setR, xtag_setR, xown_setR, xlen_setR, xE_setW, xsz_setW, xsl_setW, xtag_setW, xown_setW, xlen_setW, xi_setR, xi_setW, xr_setI, xr_setW, xww_setI, xww_setR, xi_setI, xr_setR, xww_setW, xE_new, xsz_new, xsl_new, hX.tx, hX.xp, hX.P.tag, hX.P.f0, hX.P.f1, hX.P.f2, hX.lt, hX.l0, hX.l1, hX.l5, hX.l2, hX.l7, hX.fat, hX.kat, hX.lat, hX.kao, hX1.tx, hX1.xp, hX1.P.tag, hX1.P.f0, hX1.P.f1, hX1.P.f2, hX1.lt, hX1.l0, hX1.l1, hX1.l5, hX1.l2, hX1.l7, hX1.fat, hX1.kat, hX1.lat, hX1.kao] <;> rfl)) (by simp [-List.getD_eq_getElem?_getD, xE_setI, xsz_setI, xsl_setI, xtag_setI, xown_setI, xlen_setI, xE_setR, xsz_setR, xsl_setR, xtag_setR, xown_setR, xlen_setR, xE_setW, xsz_setW, xsl_setW, xtag_setW, xown_setW, xlen_setW, xi_setR, xi_setW, xr_setI, xr_setW, xww_setI, xww_setR, xi_setI, xr_setR, xww_setW, xE_new, xsz_new, xsl_new, hX.tx, hX.xp, hX.P.tag, hX.P.f0, hX.P.f1, hX.P.f2, hX.lt, hX.l0, hX.l1, hX.l5, hX.l2, hX.l7, hX.fat, hX.kat, hX.lat, hX.kao, hX1.tx, hX1.xp, hX1.P.tag, hX1.P.f0, hX1.P.f1, hX1.P.f2, hX1.lt, hX1.l0, hX1.l1, hX1.l5, hX1.l2, hX1.l7, hX1.fat, hX1.kat, hX1.lat, hX1.kao]) ?_
    refine xw_getS (b := (aL Z 2)) (pc := 17) fd_X5_92 dX5_rivals_17 (by first | assumption | (simp [-List.getD_eq_getElem?_getD, xE_setI, xsz_setI, xsl_setI, xtag_setI, xown_setI, xlen_setI, xE_setR, xsz_setR, xsl_setR, xtag_setR, xown_setR, xlen_setR, xE_setW, xsz_setW, xsl_setW, xtag_setW, xown_setW, xlen_setW, xi_setR, xi_setW, xr_setI, xr_setW, xww_setI, xww_setR, xi_setI, xr_setR, xww_setW, xE_new, xsz_new, xsl_new, hX.tx, hX.xp, hX.P.tag, hX.P.f0, hX.P.f1, hX.P.f2, hX.lt, hX.l0, hX.l1, hX.l5, hX.l2, hX.l7, hX.fat, hX.kat, hX.lat, hX.kao, hX1.tx, hX1.xp, hX1.P.tag, hX1.P.f0, hX1.P.f1, hX1.P.f2, hX1.lt, hX1.l0, hX1.l1, hX1.l5, hX1.l2, hX1.l7, hX1.fat, hX1.kat, hX1.lat, hX1.kao, xsub]; done) | (simp [-List.getD_eq_getElem?_getD, xE_setI, xsz_setI, xsl_setI, xtag_setI, xown_setI, xlen_setI, xE_setR, xsz_setR, xsl_setR, xtag_setR, xown_setR, xlen_setR, xE_setW, xsz_setW, xsl_setW, xtag_setW, xown_setW, xlen_setW, xi_setR, xi_setW, xr_setI, xr_setW, xww_setI, xww_setR, xi_setI, xr_setR, xww_setW, xE_new, xsz_new, xsl_new, hX.tx, hX.xp, hX.P.tag, hX.P.f0, hX.P.f1, hX.P.f2, hX.lt, hX.l0, hX.l1, hX.l5, hX.l2, hX.l7, hX.fat, hX.kat, hX.lat, hX.kao, hX1.tx, hX1.xp, hX1.P.tag, hX1.P.f0, hX1.P.f1, hX1.P.f2, hX1.lt, hX1.l0, hX1.l1, hX1.l5, hX1.l2, hX1.l7, hX1.fat, hX1.kat, hX1.lat, hX1.kao] <;> rfl)) (by simp [-List.getD_eq_getElem?_getD, xE_setI, xsz_setI, xsl_setI, xtag_setI, xown_setI, xlen_setI, xE_setR, xsz_setR, xsl_setR, xtag_setR, xown_setR, xlen_setR, xE_setW, xsz_setW, xsl_setW, xtag_setW, xown_setW, xlen_setW, xi_setR, xi_setW, xr_setI, xr_setW, xww_setI, xww_setR, xi_setI, xr_setR, xww_setW, xE_new, xsz_new, xsl_new, hX.tx, hX.xp, hX.P.tag, hX.P.f0, hX.P.f1, hX.P.f2, hX.lt, hX.l0, hX.l1, hX.l5, hX.l2, hX.l7, hX.fat, hX.kat, hX.lat, hX.kao, hX1.tx, hX1.xp, hX1.P.tag, hX1.P.f0, hX1.P.f1, hX1.P.f2, hX1.lt, hX1.l0, hX1.l1, hX1.l5, hX1.l2, hX1.l7, hX1.fat, hX1.kat, hX1.lat, hX1.kao]) ?_
    refine xw_callV (pc := 20) (xr_V (as := []) ok_J2_size rfl (by decide) q754 q702 q703 (by rw [hX1.P.l1.1]; rfl) (by rw [hX1.P.l1.1]; rfl) dX5_rivals_20 rfl rfl (Nat.le_of_ble_eq_true rfl)) (SP_J2_size hX1.P.l1) ?_
    refine xw_icmp_ge (pc := 23) 71 dX5_rivals_23 rfl (fun hb23 => ?_) (fun hb23 => ?_)
    · replace hb23 : (aR Z).length ≤ 0 := (nI_leI (a := (aR Z).length) (b := 0) (by omega) (by omega)).mp hb23
      refine xw_iload_n (pc := 71) dX5_rivals_71 1 rfl ?_
      refine xw_iret (pc := 72) .int dX5_rivals_72 rfl ?_ 
      refine ⟨congrArg (fun x => Sum.inl (some (Value.int x))) ?_, hc1⟩
      have hz : rivP s H rr = fun _ => false := by unfold rivP; rw [hpr]
      rw [hz]
      exact (bset_no (fun _ => rfl) rr).symm
    · replace hb23 : ¬ ((aR Z).length ≤ 0) := mt (nI_leI (a := (aR Z).length) (b := 0) (by omega) (by omega)).mpr hb23
      refine xw_aload_n (pc := 26) dX5_rivals_26 2 rfl ?_
      refine xw_ifnullN (pc := 27) 71 dX5_rivals_27 rfl ?_
      refine xw_iload_n (pc := 71) dX5_rivals_71 1 rfl ?_
      refine xw_iret (pc := 72) .int dX5_rivals_72 rfl ?_ 
      refine ⟨congrArg (fun x => Sum.inl (some (Value.int x))) ?_, hc1⟩
      have hz : rivP s H rr = fun _ => false := by unfold rivP; rw [hpr]
      rw [hz]
      exact (bset_no (fun _ => rfl) rr).symm

/-- the best so far, of the first i behind r: one that holds goes ahead -/
def nxB (s : Nat → Int32) (C H : Nat → Bool) (r i : Nat) : Option Nat := match nxK s H r i with
  | some x => some x
  | none => nxK s C r i
def nxHo (s : Nat → Int32) (H : Nat → Bool) (r i : Nat) : Bool := (nxK s H r i).isSome
theorem nxB_lt {s : Nat → Int32} {C H : Nat → Bool} {r i b : Nat} (h : nxB s C H r i = some b) : r < b ∧ b < r + 1 + i := by
  unfold nxB at h
  cases hq : nxK s H r i with
  | some x => rw [hq] at h; cases h; exact nxK_lt hq
  | none => rw [hq] at h; exact nxK_lt h
/-- one step -/
theorem nxB_step {s : Nat → Int32} {C H : Nat → Bool} {r i : Nat} (hHC : H (r + 1 + i) = true → C (r + 1 + i) = true) :
    (nxB s C H r (i + 1), nxHo s H r (i + 1)) = if isPa s (r + 1 + i) r && C (r + 1 + i) then
      (if (match nxB s C H r i with
        | none => true
        | some b => (H (r + 1 + i) && !nxHo s H r i) || (H (r + 1 + i) == nxHo s H r i && decide (s (23 + 20 * b + 2) < s (23 + 20 * (r + 1 + i) + 2)))) then (some (r + 1 + i), H (r + 1 + i)) else (nxB s C H r i, nxHo s H r i)) else (nxB s C H r i, nxHo s H r i) := by
  have eH : nxK s H r (i + 1) = if isPa s (r + 1 + i) r && (H (r + 1 + i) && (match nxK s H r i with
    | none => true
    | some b => decide (s (23 + 20 * b + 2) < s (23 + 20 * (r + 1 + i) + 2)))) then some (r + 1 + i) else nxK s H r i := rfl
  have eC : nxK s C r (i + 1) = if isPa s (r + 1 + i) r && (C (r + 1 + i) && (match nxK s C r i with
    | none => true
    | some b => decide (s (23 + 20 * b + 2) < s (23 + 20 * (r + 1 + i) + 2)))) then some (r + 1 + i) else nxK s C r i := rfl
  unfold nxB nxHo
  rw [eH, eC]
  cases hP : isPa s (r + 1 + i) r
  · simp
  · cases hC : C (r + 1 + i)
    · have hH : H (r + 1 + i) = false := by
        cases hH : H (r + 1 + i) with
        | false => rfl
        | true => rw [hHC hH] at hC; cases hC
      rw [hH]
      simp
    · cases hH : H (r + 1 + i)
      · cases hK : nxK s H r i with
        | some x => simp
        | none =>
          cases hKC : nxK s C r i with
          | none => simp
          | some b =>
            simp
            split <;> first | rfl | simp | simp_all
      · cases hK : nxK s H r i with
        | none => simp; cases nxK s C r i <;> simp
        | some x =>
          by_cases hlt : s (23 + 20 * x + 2) < s (23 + 20 * (r + 1 + i) + 2) <;> simp [hlt]
