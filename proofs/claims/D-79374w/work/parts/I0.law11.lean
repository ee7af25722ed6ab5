/-! LAW 11: the wrappers, joined -/
set_option maxRecDepth 100000
/-- owners that a wrapper may write -/
def oW : Nat → Prop := fun o => o ≠ 0 ∧ o ≠ 3
/-- a wrapper's call and the reference's: both tell c; and where c is 0, out holds the answer -/
def jW {α : Type} (P : α → Prop) (wr : α → Value) (word : α → UInt64) (Mw Mr : xM) (as : List Value) (g : xG) (x out : Nat) (S : xMS) : Prop :=
  ∃ (c : Nat) (b : α) (S' : xMS), c ≤ 3 ∧ (c = 0 → P b) ∧ jM Mr as S (wr b) c S' ∧ ∀ d, XM Mw (d + 91) (.ref x :: (as ++ [.ref out])) g (xVal (.int (nI c)) (fun g' => xST g' x S' ∧ xFr oW 45000 g g' ∧ (c = 0 → xw g' out 0 = word b)))
theorem jOp.toP {α : Type} {wr : α → Value} {Mc Mr : xM} {L : List (Nat × Nat)} {as : List Value} {g : xG} {x : Nat} {S : xMS} (h : jOp wr Mc Mr L as g x S) : jOpP (fun _ => True) wr Mc Mr L as g x S := by
  rcases h with ⟨a, S', h1, h2⟩ | h
  · exact .inl ⟨a, S', trivial, h1, h2⟩
  · exact .inr h
theorem jW.mk {α : Type} {P : α → Prop} {wr : α → Value} {word : α → UInt64} {Mw Mc Mr : xM} {L : List (Nat × Nat)} {as : List Value} {g : xG} {x out tg : Nat} {S : xMS} (hJ : jOpP P wr Mc Mr L as g x S) (ht : tg ≠ 0) (ho : xtag g out = tg ∧ xown g out = 4 ∧ xlen g out = 1)
    (hok : ∀ (d : Nat) (v : α) (E : xG → Prop), P v → (∀ g', E g' → xtag g' out = tg ∧ xown g' out = 4 ∧ xlen g' out = 1) → XM Mc (d + 90) (.ref x :: as) g (xVal (wr v) E) → XM Mw (d + 91) (.ref x :: (as ++ [.ref out])) g (xVal (.int (nI 0)) (fun g' => ∃ g1, E g1 ∧ g' = xsetW g1 out 0 (word v))))
    (her : ∀ t c, (t, c) ∈ L → (0 < c ∧ c ≤ 3) ∧ ∀ (d : Nat) (E : xG → Prop), XM Mc (d + 90) (.ref x :: as) g (xErr t E) → XM Mw (d + 91) (.ref x :: (as ++ [.ref out])) g (xVal (.int (nI c)) E)) : jW P wr word Mw Mr as g x out S := by
  obtain ⟨o1, o2, o3⟩ := ho
  have hol : out < xsz g := xlt (by rw [o1]; exact ht)
  have sub : ∀ o, oC o → oW o := fun o h => ⟨h.1, h.2.1⟩
  rcases hJ with ⟨a, S', hP, h1, h2⟩ | ⟨t, c, b, S', hL, h1, h2⟩
  · refine ⟨0, a, S', by decide, fun _ => hP, h2, fun d => (hok d a (jE g x S') hP (fun g' hE => ⟨(hE.2.tag hol).trans o1, (hE.2.own hol).trans o2, (hE.2.len hol).trans o3⟩) (h1 d)).mono (fun rs g' ⟨e1, g1, ⟨hS, F⟩, e2⟩ _ => ⟨e1, ?_⟩)⟩
    subst e2
    have t1 : xtag g1 out = tg := (F.tag hol).trans o1
    have w1 : xown g1 out = 4 := (F.own hol).trans o2
    have F1 : xFr (oEq 4) 0 g1 (xsetW g1 out 0 (word a)) := xFr.rf.sw (Or.inr w1)
    obtain ⟨p, lk, fa, ka, la, Z, n, rr, ww, dq, da, hh, ps, sv, hp⟩ := hS.p
    refine ⟨(hp.fr F1 (fun o ho => by unfold oEq at ho; omega)).st, ((F.sub sub (Nat.le_refl _)).tr (F1.sub (O' := oW) (fun o ho => by unfold oEq at ho; unfold oW; omega) (Nat.le_refl _))).sub (fun _ h => h) (by omega), fun _ => xww_setWS (by rw [t1]; exact ht)⟩
  · obtain ⟨⟨c0, c3⟩, he⟩ := her t c hL
    exact ⟨c, b, S', c3, fun h => absurd h (by omega), h2, fun d => (he d _ (h1 d)).mono (fun rs g' ⟨e1, hS, F⟩ _ => ⟨e1, hS, F.sub sub (Nat.le_refl _), fun h => absurd h (by omega)⟩)⟩

theorem W_scope {g : xG} {x out : Nat} {S : xMS} (h : xST g x S) (hK : xKs g) (hx : xtag g x = 1) (ho : xtag g out = 106 ∧ xown g out = 4 ∧ xlen g out = 1) {p0 : Int32} : jW (fun _ => True) Value.int (fun v : Int32 => v.toInt64.toUInt64) M_X0_scope M_X6_scope [.int p0] g x out S := by
  refine jW.mk ((J_scope h hK).toP) (by decide) ho (fun d v E hP hE h => SP_X0_scope_ok hx hE h) (fun t c hz => ?_)
  simp only [List.mem_cons, Prod.mk.injEq, List.not_mem_nil, or_false] at hz
  rcases hz with ⟨rfl, rfl⟩ | ⟨rfl, rfl⟩
  · exact ⟨⟨by decide, by decide⟩, fun d E h => SP_X0_scope_23 hx h⟩
  · exact ⟨⟨by decide, by decide⟩, fun d E h => SP_X0_scope_24 hx h⟩
theorem W_setDefault {g : xG} {x out : Nat} {S : xMS} (h : xST g x S) (hK : xKs g) (hx : xtag g x = 1) (ho : xtag g out = 106 ∧ xown g out = 4 ∧ xlen g out = 1) {p0 p1 : Int32} : jW (fun _ => True) Value.int (fun v : Int32 => v.toInt64.toUInt64) M_X0_setDefault M_X6_setDefault [.int p0, .int p1] g x out S := by
  refine jW.mk ((J_setDefault h hK).toP) (by decide) ho (fun d v E hP hE h => SP_X0_setDefault_ok hx hE h) (fun t c hz => ?_)
  simp only [List.mem_cons, Prod.mk.injEq, List.not_mem_nil, or_false] at hz
  rcases hz with ⟨rfl, rfl⟩ | ⟨rfl, rfl⟩
  · exact ⟨⟨by decide, by decide⟩, fun d E h => SP_X0_setDefault_23 hx h⟩
  · exact ⟨⟨by decide, by decide⟩, fun d E h => SP_X0_setDefault_22 hx h⟩
theorem W_scopeOf {g : xG} {x out : Nat} {S : xMS} (h : xST g x S) (hK : xKs g) (hx : xtag g x = 1) (ho : xtag g out = 106 ∧ xown g out = 4 ∧ xlen g out = 1) {p0 p1 : Int32} : jW (fun _ => True) Value.int (fun v : Int32 => v.toInt64.toUInt64) M_X0_scopeOf M_X6_scopeOf [.int p0, .int p1] g x out S := by
  refine jW.mk ((J_scopeOf h hK).toP) (by decide) ho (fun d v E hP hE h => SP_X0_scopeOf_ok hx hE h) (fun t c hz => ?_)
  simp only [List.mem_cons, Prod.mk.injEq, List.not_mem_nil, or_false] at hz
  rcases hz with ⟨rfl, rfl⟩ | ⟨rfl, rfl⟩
  · exact ⟨⟨by decide, by decide⟩, fun d E h => SP_X0_scopeOf_23 hx h⟩
  · exact ⟨⟨by decide, by decide⟩, fun d E h => SP_X0_scopeOf_22 hx h⟩
theorem W_isWithin {g : xG} {x out : Nat} {S : xMS} (h : xST g x S) (hK : xKs g) (hx : xtag g x = 1) (ho : xtag g out = 106 ∧ xown g out = 4 ∧ xlen g out = 1) {p0 p1 : Int32} : jW (fun _ => True) (fun b : Bool => Value.int (bI b)) (fun v : Bool => (if v then 1 else 0 : Int64).toUInt64) M_X0_isWithin M_X6_isWithin [.int p0, .int p1] g x out S := by
  refine jW.mk ((J_isWithin h hK).toP) (by decide) ho (fun d v E hP hE h => SP_X0_isWithin_ok hx hE h) (fun t c hz => ?_)
  simp only [List.mem_cons, Prod.mk.injEq, List.not_mem_nil, or_false] at hz
  rcases hz with ⟨rfl, rfl⟩
  exact ⟨⟨by decide, by decide⟩, fun d E h => SP_X0_isWithin_23 hx h⟩
theorem W_rule {g : xG} {x out : Nat} {S : xMS} (h : xST g x S) (hK : xKs g) (hx : xtag g x = 1) (ho : xtag g out = 106 ∧ xown g out = 4 ∧ xlen g out = 1) {p0 p1 p2 p3 p4 : Int32} : jW (fun _ => True) Value.int (fun v : Int32 => v.toInt64.toUInt64) M_X0_rule M_X6_rule [.int p0, .int p1, .int p2, .int p3, .int p4] g x out S := by
  refine jW.mk ((J_rule h hK).toP) (by decide) ho (fun d v E hP hE h => SP_X0_rule_ok hx hE h) (fun t c hz => ?_)
  simp only [List.mem_cons, Prod.mk.injEq, List.not_mem_nil, or_false] at hz
  rcases hz with ⟨rfl, rfl⟩ | ⟨rfl, rfl⟩ | ⟨rfl, rfl⟩
  · exact ⟨⟨by decide, by decide⟩, fun d E h => SP_X0_rule_23 hx h⟩
  · exact ⟨⟨by decide, by decide⟩, fun d E h => SP_X0_rule_22 hx h⟩
  · exact ⟨⟨by decide, by decide⟩, fun d E h => SP_X0_rule_26 hx h⟩
theorem W_except {g : xG} {x out : Nat} {S : xMS} (h : xST g x S) (hK : xKs g) (hx : xtag g x = 1) (ho : xtag g out = 106 ∧ xown g out = 4 ∧ xlen g out = 1) {p0 p1 p2 p3 p4 : Int32} : jW (fun _ => True) Value.int (fun v : Int32 => v.toInt64.toUInt64) M_X0_except M_X6_except [.int p0, .int p1, .int p2, .int p3, .int p4] g x out S := by
  refine jW.mk ((J_except h hK).toP) (by decide) ho (fun d v E hP hE h => SP_X0_except_ok hx hE h) (fun t c hz => ?_)
  simp only [List.mem_cons, Prod.mk.injEq, List.not_mem_nil, or_false] at hz
  rcases hz with ⟨rfl, rfl⟩ | ⟨rfl, rfl⟩ | ⟨rfl, rfl⟩
  · exact ⟨⟨by decide, by decide⟩, fun d E h => SP_X0_except_23 hx h⟩
  · exact ⟨⟨by decide, by decide⟩, fun d E h => SP_X0_except_22 hx h⟩
  · exact ⟨⟨by decide, by decide⟩, fun d E h => SP_X0_except_26 hx h⟩
theorem W_test {g : xG} {x out : Nat} {S : xMS} (h : xST g x S) (hK : xKs g) (hx : xtag g x = 1) (ho : xtag g out = 106 ∧ xown g out = 4 ∧ xlen g out = 1) {p0 p1 p2 p3 : Int32} : jW (fun _ => True) Value.int (fun v : Int32 => v.toInt64.toUInt64) M_X0_test M_X6_test [.int p0, .int p1, .int p2, .int p3] g x out S := by
  refine jW.mk ((J_test h hK).toP) (by decide) ho (fun d v E hP hE h => SP_X0_test_ok hx hE h) (fun t c hz => ?_)
  simp only [List.mem_cons, Prod.mk.injEq, List.not_mem_nil, or_false] at hz
  rcases hz with ⟨rfl, rfl⟩ | ⟨rfl, rfl⟩ | ⟨rfl, rfl⟩
  · exact ⟨⟨by decide, by decide⟩, fun d E h => SP_X0_test_23 hx h⟩
  · exact ⟨⟨by decide, by decide⟩, fun d E h => SP_X0_test_22 hx h⟩
  · exact ⟨⟨by decide, by decide⟩, fun d E h => SP_X0_test_26 hx h⟩
theorem W_setFactor {g : xG} {x out : Nat} {S : xMS} (h : xST g x S) (hK : xKs g) (hx : xtag g x = 1) (ho : xtag g out = 106 ∧ xown g out = 4 ∧ xlen g out = 1) {p0 p1 : Int32} : jW (fun _ => True) Value.int (fun v : Int32 => v.toInt64.toUInt64) M_X0_setFactor M_X6_setFactor [.int p0, .int p1] g x out S := by
  refine jW.mk ((J_setFactor h hK).toP) (by decide) ho (fun d v E hP hE h => SP_X0_setFactor_ok hx hE h) (fun t c hz => ?_)
  simp only [List.mem_cons, Prod.mk.injEq, List.not_mem_nil, or_false] at hz
  rcases hz with ⟨rfl, rfl⟩ | ⟨rfl, rfl⟩
  · exact ⟨⟨by decide, by decide⟩, fun d E h => SP_X0_setFactor_23 hx h⟩
  · exact ⟨⟨by decide, by decide⟩, fun d E h => SP_X0_setFactor_22 hx h⟩
theorem W_end {g : xG} {x out : Nat} {S : xMS} (h : xST g x S) (hK : xKs g) (hx : xtag g x = 1) (ho : xtag g out = 106 ∧ xown g out = 4 ∧ xlen g out = 1) {p0 p1 : Int32} : jW (fun _ => True) Value.int (fun v : Int32 => v.toInt64.toUInt64) M_X0_end M_X6_end [.int p0, .int p1] g x out S := by
  refine jW.mk ((J_end h hK).toP) (by decide) ho (fun d v E hP hE h => SP_X0_end_ok hx hE h) (fun t c hz => ?_)
  simp only [List.mem_cons, Prod.mk.injEq, List.not_mem_nil, or_false] at hz
  rcases hz with ⟨rfl, rfl⟩ | ⟨rfl, rfl⟩ | ⟨rfl, rfl⟩
  · exact ⟨⟨by decide, by decide⟩, fun d E h => SP_X0_end_23 hx h⟩
  · exact ⟨⟨by decide, by decide⟩, fun d E h => SP_X0_end_22 hx h⟩
  · exact ⟨⟨by decide, by decide⟩, fun d E h => SP_X0_end_26 hx h⟩
theorem W_ruleOf {g : xG} {x out : Nat} {S : xMS} (h : xST g x S) (hK : xKs g) (hx : xtag g x = 1) (ho : xtag g out = 106 ∧ xown g out = 4 ∧ xlen g out = 1) {p0 p1 : Int32} : jW (fun _ => True) Value.int (fun v : Int32 => v.toInt64.toUInt64) M_X0_ruleOf M_X6_ruleOf [.int p0, .int p1] g x out S := by
  refine jW.mk ((J_ruleOf h hK).toP) (by decide) ho (fun d v E hP hE h => SP_X0_ruleOf_ok hx hE h) (fun t c hz => ?_)
  simp only [List.mem_cons, Prod.mk.injEq, List.not_mem_nil, or_false] at hz
  rcases hz with ⟨rfl, rfl⟩ | ⟨rfl, rfl⟩
  · exact ⟨⟨by decide, by decide⟩, fun d E h => SP_X0_ruleOf_23 hx h⟩
  · exact ⟨⟨by decide, by decide⟩, fun d E h => SP_X0_ruleOf_22 hx h⟩
theorem W_testOf {g : xG} {x out : Nat} {S : xMS} (h : xST g x S) (hK : xKs g) (hx : xtag g x = 1) (ho : xtag g out = 106 ∧ xown g out = 4 ∧ xlen g out = 1) {p0 p1 p2 : Int32} : jW (fun _ => True) Value.int (fun v : Int32 => v.toInt64.toUInt64) M_X0_testOf M_X6_testOf [.int p0, .int p1, .int p2] g x out S := by
  refine jW.mk ((J_testOf h hK).toP) (by decide) ho (fun d v E hP hE h => SP_X0_testOf_ok hx hE h) (fun t c hz => ?_)
  simp only [List.mem_cons, Prod.mk.injEq, List.not_mem_nil, or_false] at hz
  rcases hz with ⟨rfl, rfl⟩ | ⟨rfl, rfl⟩ | ⟨rfl, rfl⟩
  · exact ⟨⟨by decide, by decide⟩, fun d E h => SP_X0_testOf_23 hx h⟩
  · exact ⟨⟨by decide, by decide⟩, fun d E h => SP_X0_testOf_25 hx h⟩
  · exact ⟨⟨by decide, by decide⟩, fun d E h => SP_X0_testOf_22 hx h⟩
theorem W_covers {g : xG} {x out : Nat} {S : xMS} (h : xST g x S) (hK : xKs g) (hx : xtag g x = 1) (ho : xtag g out = 106 ∧ xown g out = 4 ∧ xlen g out = 1) {p0 p1 p2 p3 : Int32} : jW (fun _ => True) (fun b : Bool => Value.int (bI b)) (fun v : Bool => (if v then 1 else 0 : Int64).toUInt64) M_X0_covers M_X6_covers [.int p0, .int p1, .int p2, .int p3] g x out S := by
  refine jW.mk ((J_covers h hK).toP) (by decide) ho (fun d v E hP hE h => SP_X0_covers_ok hx hE h) (fun t c hz => ?_)
  simp only [List.mem_cons, Prod.mk.injEq, List.not_mem_nil, or_false] at hz
  rcases hz with ⟨rfl, rfl⟩ | ⟨rfl, rfl⟩
  · exact ⟨⟨by decide, by decide⟩, fun d E h => SP_X0_covers_23 hx h⟩
  · exact ⟨⟨by decide, by decide⟩, fun d E h => SP_X0_covers_22 hx h⟩
theorem W_holds {g : xG} {x out : Nat} {S : xMS} (h : xST g x S) (hK : xKs g) (hx : xtag g x = 1) (ho : xtag g out = 106 ∧ xown g out = 4 ∧ xlen g out = 1) {p0 p1 p2 p3 : Int32} : jW (fun _ => True) (fun b : Bool => Value.int (bI b)) (fun v : Bool => (if v then 1 else 0 : Int64).toUInt64) M_X0_holds M_X6_holds [.int p0, .int p1, .int p2, .int p3] g x out S := by
  refine jW.mk ((J_holds h hK).toP) (by decide) ho (fun d v E hP hE h => SP_X0_holds_ok hx hE h) (fun t c hz => ?_)
  simp only [List.mem_cons, Prod.mk.injEq, List.not_mem_nil, or_false] at hz
  rcases hz with ⟨rfl, rfl⟩ | ⟨rfl, rfl⟩
  · exact ⟨⟨by decide, by decide⟩, fun d E h => SP_X0_holds_23 hx h⟩
  · exact ⟨⟨by decide, by decide⟩, fun d E h => SP_X0_holds_22 hx h⟩
theorem W_holdsAgain {g : xG} {x out : Nat} {S : xMS} (h : xST g x S) (hK : xKs g) (hx : xtag g x = 1) (ho : xtag g out = 106 ∧ xown g out = 4 ∧ xlen g out = 1) {p0 p1 p2 p3 : Int32} : jW (fun _ => True) (fun b : Bool => Value.int (bI b)) (fun v : Bool => (if v then 1 else 0 : Int64).toUInt64) M_X0_holdsAgain M_X6_holdsAgain [.int p0, .int p1, .int p2, .int p3] g x out S := by
  refine jW.mk ((J_holdsAgain h hK).toP) (by decide) ho (fun d v E hP hE h => SP_X0_holdsAgain_ok hx hE h) (fun t c hz => ?_)
  simp only [List.mem_cons, Prod.mk.injEq, List.not_mem_nil, or_false] at hz
  rcases hz with ⟨rfl, rfl⟩ | ⟨rfl, rfl⟩
  · exact ⟨⟨by decide, by decide⟩, fun d E h => SP_X0_holdsAgain_23 hx h⟩
  · exact ⟨⟨by decide, by decide⟩, fun d E h => SP_X0_holdsAgain_22 hx h⟩
theorem W_outcome {g : xG} {x out : Nat} {S : xMS} (h : xST g x S) (hK : xKs g) (hx : xtag g x = 1) (ho : xtag g out = 106 ∧ xown g out = 4 ∧ xlen g out = 1) {p0 p1 p2 : Int32} : jW (fun _ => True) Value.int (fun v : Int32 => v.toInt64.toUInt64) M_X0_outcome M_X6_outcome [.int p0, .int p1, .int p2] g x out S := by
  refine jW.mk ((J_outcome h hK).toP) (by decide) ho (fun d v E hP hE h => SP_X0_outcome_ok hx hE h) (fun t c hz => ?_)
  simp only [List.mem_cons, Prod.mk.injEq, List.not_mem_nil, or_false] at hz
  rcases hz with ⟨rfl, rfl⟩ | ⟨rfl, rfl⟩
  · exact ⟨⟨by decide, by decide⟩, fun d E h => SP_X0_outcome_23 hx h⟩
  · exact ⟨⟨by decide, by decide⟩, fun d E h => SP_X0_outcome_22 hx h⟩
theorem W_chain {g : xG} {x out : Nat} {S : xMS} (h : xST g x S) (hK : xKs g) (hx : xtag g x = 1) (ho : xtag g out = 106 ∧ xown g out = 4 ∧ xlen g out = 1) {p0 p1 p2 p3 : Int32} : jW (fun _ => True) Value.int (fun v : Int32 => v.toInt64.toUInt64) M_X0_chain M_X6_chain [.int p0, .int p1, .int p2, .int p3] g x out S := by
  refine jW.mk ((J_chain h hK).toP) (by decide) ho (fun d v E hP hE h => SP_X0_chain_ok hx hE h) (fun t c hz => ?_)
  simp only [List.mem_cons, Prod.mk.injEq, List.not_mem_nil, or_false] at hz
  rcases hz with ⟨rfl, rfl⟩ | ⟨rfl, rfl⟩ | ⟨rfl, rfl⟩
  · exact ⟨⟨by decide, by decide⟩, fun d E h => SP_X0_chain_23 hx h⟩
  · exact ⟨⟨by decide, by decide⟩, fun d E h => SP_X0_chain_22 hx h⟩
  · exact ⟨⟨by decide, by decide⟩, fun d E h => SP_X0_chain_25 hx h⟩
theorem W_rival {g : xG} {x out : Nat} {S : xMS} (h : xST g x S) (hK : xKs g) (hx : xtag g x = 1) (ho : xtag g out = 106 ∧ xown g out = 4 ∧ xlen g out = 1) {p0 p1 p2 p3 : Int32} : jW (fun _ => True) Value.int (fun v : Int32 => v.toInt64.toUInt64) M_X0_rival M_X6_rival [.int p0, .int p1, .int p2, .int p3] g x out S := by
  refine jW.mk ((J_rival h hK).toP) (by decide) ho (fun d v E hP hE h => SP_X0_rival_ok hx hE h) (fun t c hz => ?_)
  simp only [List.mem_cons, Prod.mk.injEq, List.not_mem_nil, or_false] at hz
  rcases hz with ⟨rfl, rfl⟩ | ⟨rfl, rfl⟩ | ⟨rfl, rfl⟩
  · exact ⟨⟨by decide, by decide⟩, fun d E h => SP_X0_rival_23 hx h⟩
  · exact ⟨⟨by decide, by decide⟩, fun d E h => SP_X0_rival_22 hx h⟩
  · exact ⟨⟨by decide, by decide⟩, fun d E h => SP_X0_rival_25 hx h⟩
theorem W_nextChange {g : xG} {x out : Nat} {S : xMS} (h : xST g x S) (hK : xKs g) (hx : xtag g x = 1) (ho : xtag g out = 106 ∧ xown g out = 4 ∧ xlen g out = 1) {p0 p1 p2 : Int32} : jW (fun _ => True) Value.int (fun v : Int32 => v.toInt64.toUInt64) M_X0_nextChange M_X6_nextChange [.int p0, .int p1, .int p2] g x out S := by
  refine jW.mk ((J_nextChange h hK).toP) (by decide) ho (fun d v E hP hE h => SP_X0_nextChange_ok hx hE h) (fun t c hz => ?_)
  simp only [List.mem_cons, Prod.mk.injEq, List.not_mem_nil, or_false] at hz
  rcases hz with ⟨rfl, rfl⟩ | ⟨rfl, rfl⟩ | ⟨rfl, rfl⟩
  · exact ⟨⟨by decide, by decide⟩, fun d E h => SP_X0_nextChange_23 hx h⟩
  · exact ⟨⟨by decide, by decide⟩, fun d E h => SP_X0_nextChange_22 hx h⟩
  · exact ⟨⟨by decide, by decide⟩, fun d E h => SP_X0_nextChange_25 hx h⟩
theorem W_days {g : xG} {x out : Nat} {S : xMS} (h : xST g x S) (hK : xKs g) (hx : xtag g x = 1) (ho : xtag g out = 106 ∧ xown g out = 4 ∧ xlen g out = 1) {p0 p1 p2 : Int32} : jW (fun _ => True) Value.int (fun v : Int32 => v.toInt64.toUInt64) M_X0_days M_X6_days [.int p0, .int p1, .int p2] g x out S := by
  refine jW.mk ((J_days h hK).toP) (by decide) ho (fun d v E hP hE h => SP_X0_days_ok hx hE h) (fun t c hz => ?_)
  simp only [List.mem_cons, Prod.mk.injEq, List.not_mem_nil, or_false] at hz
  rcases hz with ⟨rfl, rfl⟩ | ⟨rfl, rfl⟩
  · exact ⟨⟨by decide, by decide⟩, fun d E h => SP_X0_days_23 hx h⟩
  · exact ⟨⟨by decide, by decide⟩, fun d E h => SP_X0_days_22 hx h⟩
theorem W_burden {g : xG} {x out : Nat} {S : xMS} (h : xST g x S) (hK : xKs g) (hx : xtag g x = 1) (ho : xtag g out = 107 ∧ xown g out = 4 ∧ xlen g out = 1) {p0 p1 p2 : Int32} : jW fZ Value.float FP.f2d M_X0_burden M_X6_burden [.int p0, .int p1, .int p2] g x out S := by
  refine jW.mk (J_burden h hK) (by decide) ho (fun d v E hP hE h => SP_X0_burden_ok hx hE (hz := hP) h) (fun t c hz => ?_)
  simp only [List.mem_cons, Prod.mk.injEq, List.not_mem_nil, or_false] at hz
  rcases hz with ⟨rfl, rfl⟩ | ⟨rfl, rfl⟩
  · exact ⟨⟨by decide, by decide⟩, fun d E h => SP_X0_burden_23 hx h⟩
  · exact ⟨⟨by decide, by decide⟩, fun d E h => SP_X0_burden_22 hx h⟩
theorem W_percent {g : xG} {x out : Nat} {S : xMS} (h : xST g x S) (hK : xKs g) (hx : xtag g x = 1) (ho : xtag g out = 106 ∧ xown g out = 4 ∧ xlen g out = 1) {p0 p1 p2 : Int32} : jW (fun _ => True) Value.int (fun v : Int32 => v.toInt64.toUInt64) M_X0_percent M_X6_percent [.int p0, .int p1, .int p2] g x out S := by
  refine jW.mk ((J_percent h hK).toP) (by decide) ho (fun d v E hP hE h => SP_X0_percent_ok hx hE h) (fun t c hz => ?_)
  simp only [List.mem_cons, Prod.mk.injEq, List.not_mem_nil, or_false] at hz
  rcases hz with ⟨rfl, rfl⟩ | ⟨rfl, rfl⟩
  · exact ⟨⟨by decide, by decide⟩, fun d E h => SP_X0_percent_23 hx h⟩
  · exact ⟨⟨by decide, by decide⟩, fun d E h => SP_X0_percent_22 hx h⟩
theorem W_work {g : xG} {x out : Nat} {S : xMS} (h : xST g x S) (hK : xKs g) (hx : xtag g x = 1) (ho : xtag g out = 106 ∧ xown g out = 4 ∧ xlen g out = 1) {p0 p1 p2 p3 : Int32} : jW (fun _ => True) Value.int (fun v : Int32 => v.toInt64.toUInt64) M_X0_work M_X6_work [.int p0, .int p1, .int p2, .int p3] g x out S := by
  refine jW.mk ((J_work h hK).toP) (by decide) ho (fun d v E hP hE h => SP_X0_work_ok hx hE h) (fun t c hz => ?_)
  simp only [List.mem_cons, Prod.mk.injEq, List.not_mem_nil, or_false] at hz
  rcases hz with ⟨rfl, rfl⟩ | ⟨rfl, rfl⟩ | ⟨rfl, rfl⟩
  · exact ⟨⟨by decide, by decide⟩, fun d E h => SP_X0_work_23 hx h⟩
  · exact ⟨⟨by decide, by decide⟩, fun d E h => SP_X0_work_22 hx h⟩
  · exact ⟨⟨by decide, by decide⟩, fun d E h => SP_X0_work_26 hx h⟩
theorem W_caseOf {g : xG} {x out : Nat} {S : xMS} (h : xST g x S) (hK : xKs g) (hx : xtag g x = 1) (ho : xtag g out = 106 ∧ xown g out = 4 ∧ xlen g out = 1) {p0 p1 : Int32} : jW (fun _ => True) Value.int (fun v : Int32 => v.toInt64.toUInt64) M_X0_caseOf M_X6_caseOf [.int p0, .int p1] g x out S := by
  refine jW.mk ((J_caseOf h hK).toP) (by decide) ho (fun d v E hP hE h => SP_X0_caseOf_ok hx hE h) (fun t c hz => ?_)
  simp only [List.mem_cons, Prod.mk.injEq, List.not_mem_nil, or_false] at hz
  rcases hz with ⟨rfl, rfl⟩ | ⟨rfl, rfl⟩
  · exact ⟨⟨by decide, by decide⟩, fun d E h => SP_X0_caseOf_23 hx h⟩
  · exact ⟨⟨by decide, by decide⟩, fun d E h => SP_X0_caseOf_22 hx h⟩
theorem W_dropCase {g : xG} {x out : Nat} {S : xMS} (h : xST g x S) (hK : xKs g) (hx : xtag g x = 1) (ho : xtag g out = 106 ∧ xown g out = 4 ∧ xlen g out = 1) {p0 : Int32} : jW (fun _ => True) Value.int (fun v : Int32 => v.toInt64.toUInt64) M_X0_dropCase M_X6_dropCase [.int p0] g x out S := by
  refine jW.mk ((J_dropCase h hK).toP) (by decide) ho (fun d v E hP hE h => SP_X0_dropCase_ok hx hE h) (fun t c hz => ?_)
  simp only [List.mem_cons, Prod.mk.injEq, List.not_mem_nil, or_false] at hz
  rcases hz with ⟨rfl, rfl⟩
  exact ⟨⟨by decide, by decide⟩, fun d E h => SP_X0_dropCase_23 hx h⟩
theorem W_without {g : xG} {x out : Nat} {S : xMS} (h : xST g x S) (hK : xKs g) (hx : xtag g x = 1) (ho : xtag g out = 106 ∧ xown g out = 4 ∧ xlen g out = 1) {p0 : Int32} : jW (fun _ => True) Value.int (fun v : Int32 => v.toInt64.toUInt64) M_X0_without M_X6_without [.int p0] g x out S := by
  refine jW.mk ((J_without h hK).toP) (by decide) ho (fun d v E hP hE h => SP_X0_without_ok hx hE h) (fun t c hz => ?_)
  simp only [List.mem_cons, Prod.mk.injEq, List.not_mem_nil, or_false] at hz
  rcases hz with ⟨rfl, rfl⟩
  exact ⟨⟨by decide, by decide⟩, fun d E h => SP_X0_without_23 hx h⟩
theorem W_sheet {g : xG} {x out : Nat} {S : xMS} (h : xST g x S) (hK : xKs g) (hx : xtag g x = 1) (ho : xtag g out = 106 ∧ xown g out = 4 ∧ xlen g out = 1) {p0 : Int32} : jW (fun _ => True) Value.int (fun v : Int32 => v.toInt64.toUInt64) M_X0_sheet M_X6_sheet [.int p0] g x out S := by
  refine jW.mk ((J_sheet h hK).toP) (by decide) ho (fun d v E hP hE h => SP_X0_sheet_ok hx hE h) (fun t c hz => ?_)
  simp only [List.mem_cons, Prod.mk.injEq, List.not_mem_nil, or_false] at hz
  rcases hz with ⟨rfl, rfl⟩
  exact ⟨⟨by decide, by decide⟩, fun d E h => SP_X0_sheet_22 hx h⟩
theorem W_lay {g : xG} {x out : Nat} {S : xMS} (h : xST g x S) (hK : xKs g) (hx : xtag g x = 1) (ho : xtag g out = 106 ∧ xown g out = 4 ∧ xlen g out = 1) {p0 p1 p2 : Int32} : jW (fun _ => True) Value.int (fun v : Int32 => v.toInt64.toUInt64) M_X0_lay M_X6_lay [.int p0, .int p1, .int p2] g x out S := by
  refine jW.mk ((J_lay h hK).toP) (by decide) ho (fun d v E hP hE h => SP_X0_lay_ok hx hE h) (fun t c hz => ?_)
  simp only [List.mem_cons, Prod.mk.injEq, List.not_mem_nil, or_false] at hz
  rcases hz with ⟨rfl, rfl⟩ | ⟨rfl, rfl⟩ | ⟨rfl, rfl⟩
  · exact ⟨⟨by decide, by decide⟩, fun d E h => SP_X0_lay_23 hx h⟩
  · exact ⟨⟨by decide, by decide⟩, fun d E h => SP_X0_lay_25 hx h⟩
  · exact ⟨⟨by decide, by decide⟩, fun d E h => SP_X0_lay_26 hx h⟩
theorem W_takeSheet {g : xG} {x out : Nat} {S : xMS} (h : xST g x S) (hK : xKs g) (hx : xtag g x = 1) (ho : xtag g out = 106 ∧ xown g out = 4 ∧ xlen g out = 1) {p0 : Int32} : jW (fun _ => True) Value.int (fun v : Int32 => v.toInt64.toUInt64) M_X0_takeSheet M_X6_takeSheet [.int p0] g x out S := by
  refine jW.mk ((J_takeSheet h hK).toP) (by decide) ho (fun d v E hP hE h => SP_X0_takeSheet_ok hx hE h) (fun t c hz => ?_)
  simp only [List.mem_cons, Prod.mk.injEq, List.not_mem_nil, or_false] at hz
  rcases hz with ⟨rfl, rfl⟩ | ⟨rfl, rfl⟩
  · exact ⟨⟨by decide, by decide⟩, fun d E h => SP_X0_takeSheet_23 hx h⟩
  · exact ⟨⟨by decide, by decide⟩, fun d E h => SP_X0_takeSheet_26 hx h⟩
theorem W_keepRow {g : xG} {x out : Nat} {S : xMS} (h : xST g x S) (hK : xKs g) (hx : xtag g x = 1) (ho : xtag g out = 106 ∧ xown g out = 4 ∧ xlen g out = 1) {p0 : Int32} : jW (fun _ => True) Value.int (fun v : Int32 => v.toInt64.toUInt64) M_X0_keepRow M_X6_keepRow [.int p0] g x out S := by
  refine jW.mk ((J_keepRow h hK).toP) (by decide) ho (fun d v E hP hE h => SP_X0_keepRow_ok hx hE h) (fun t c hz => ?_)
  simp only [List.mem_cons, Prod.mk.injEq, List.not_mem_nil, or_false] at hz
  rcases hz with ⟨rfl, rfl⟩
  exact ⟨⟨by decide, by decide⟩, fun d E h => SP_X0_keepRow_23 hx h⟩
theorem W_copyRow {g : xG} {x out : Nat} {S : xMS} (h : xST g x S) (hK : xKs g) (hx : xtag g x = 1) (ho : xtag g out = 106 ∧ xown g out = 4 ∧ xlen g out = 1) {p0 p1 p2 : Int32} : jW (fun _ => True) Value.int (fun v : Int32 => v.toInt64.toUInt64) M_X0_copyRow M_X6_copyRow [.int p0, .int p1, .int p2] g x out S := by
  refine jW.mk ((J_copyRow h hK).toP) (by decide) ho (fun d v E hP hE h => SP_X0_copyRow_ok hx hE h) (fun t c hz => ?_)
  simp only [List.mem_cons, Prod.mk.injEq, List.not_mem_nil, or_false] at hz
  rcases hz with ⟨rfl, rfl⟩ | ⟨rfl, rfl⟩ | ⟨rfl, rfl⟩
  · exact ⟨⟨by decide, by decide⟩, fun d E h => SP_X0_copyRow_23 hx h⟩
  · exact ⟨⟨by decide, by decide⟩, fun d E h => SP_X0_copyRow_22 hx h⟩
  · exact ⟨⟨by decide, by decide⟩, fun d E h => SP_X0_copyRow_24 hx h⟩
theorem W_element {g : xG} {x out : Nat} {S : xMS} (h : xST g x S) (hK : xKs g) (hx : xtag g x = 1) (ho : xtag g out = 106 ∧ xown g out = 4 ∧ xlen g out = 1) {p0 p1 : Int32} : jW (fun _ => True) Value.int (fun v : Int32 => v.toInt64.toUInt64) M_X0_element M_X6_element [.int p0, .int p1] g x out S := by
  refine jW.mk ((J_element h hK).toP) (by decide) ho (fun d v E hP hE h => SP_X0_element_ok hx hE h) (fun t c hz => ?_)
  simp only [List.mem_cons, Prod.mk.injEq, List.not_mem_nil, or_false] at hz
  rcases hz with ⟨rfl, rfl⟩ | ⟨rfl, rfl⟩ | ⟨rfl, rfl⟩
  · exact ⟨⟨by decide, by decide⟩, fun d E h => SP_X0_element_23 hx h⟩
  · exact ⟨⟨by decide, by decide⟩, fun d E h => SP_X0_element_24 hx h⟩
  · exact ⟨⟨by decide, by decide⟩, fun d E h => SP_X0_element_25 hx h⟩
theorem W_total {g : xG} {x out : Nat} {S : xMS} (h : xST g x S) (hK : xKs g) (hx : xtag g x = 1) (ho : xtag g out = 107 ∧ xown g out = 4 ∧ xlen g out = 1) {p0 : Int32} : jW (fun _ => True) Value.double (fun v => v) M_X0_total M_X6_total [.int p0] g x out S := by
  refine jW.mk ((J_total h hK).toP) (by decide) ho (fun d v E hP hE h => SP_X0_total_ok hx hE h) (fun t c hz => ?_)
  simp only [List.mem_cons, Prod.mk.injEq, List.not_mem_nil, or_false] at hz
  rcases hz with ⟨rfl, rfl⟩ | ⟨rfl, rfl⟩
  · exact ⟨⟨by decide, by decide⟩, fun d E h => SP_X0_total_23 hx h⟩
  · exact ⟨⟨by decide, by decide⟩, fun d E h => SP_X0_total_24 hx h⟩
theorem W_append {g : xG} {x out : Nat} {S : xMS} (h : xST g x S) (hK : xKs g) (hx : xtag g x = 1) (ho : xtag g out = 106 ∧ xown g out = 4 ∧ xlen g out = 1) {c : Nat} (hc : c < 65536) : jW (fun _ => True) Value.int (fun v : Int32 => v.toInt64.toUInt64) M_X0_append M_X6_append [.int (nI c)] g x out S := by
  refine jW.mk ((J_append h hK hc).toP) (by decide) ho (fun d v E hP hE h => SP_X0_append_ok hx hE h) (fun t c hz => ?_)
  simp only [List.mem_cons, Prod.mk.injEq, List.not_mem_nil, or_false] at hz
  rcases hz with ⟨rfl, rfl⟩
  exact ⟨⟨by decide, by decide⟩, fun d E h => SP_X0_append_24 hx h⟩
theorem W_read {g : xG} {x out : Nat} {S : xMS} (h : xST g x S) (hK : xKs g) (hx : xtag g x = 1) (ho : xtag g out = 106 ∧ xown g out = 4 ∧ xlen g out = 1) : jW (fun _ => True) Value.int (fun v : Int32 => v.toInt64.toUInt64) M_X0_read M_X6_read [] g x out S := by
  refine jW.mk ((J_read h hK).toP) (by decide) ho (fun d v E hP hE h => SP_X0_read_ok hx hE h) (fun t c hz => ?_)
  simp only [List.mem_cons, Prod.mk.injEq, List.not_mem_nil, or_false] at hz
  rcases hz with ⟨rfl, rfl⟩ | ⟨rfl, rfl⟩
  · exact ⟨⟨by decide, by decide⟩, fun d E h => SP_X0_read_22 hx h⟩
  · exact ⟨⟨by decide, by decide⟩, fun d E h => SP_X0_read_26 hx h⟩
theorem W_faultPosition {g : xG} {x out : Nat} {S : xMS} (h : xST g x S) (hK : xKs g) (hx : xtag g x = 1) (ho : xtag g out = 106 ∧ xown g out = 4 ∧ xlen g out = 1) : jW (fun _ => True) Value.int (fun v : Int32 => v.toInt64.toUInt64) M_X0_faultPosition M_X6_faultPosition [] g x out S := by
  refine jW.mk ((J_faultPosition h hK).toP) (by decide) ho (fun d v E hP hE h => SP_X0_faultPosition_ok hx hE h) (fun t c hz => ?_)
  simp only [List.mem_cons, Prod.mk.injEq, List.not_mem_nil, or_false] at hz
  rcases hz with ⟨rfl, rfl⟩
  exact ⟨⟨by decide, by decide⟩, fun d E h => SP_X0_faultPosition_25 hx h⟩
theorem W_explain {g : xG} {x out : Nat} {S : xMS} (h : xST g x S) (hK : xKs g) (hx : xtag g x = 1) (ho : xtag g out = 106 ∧ xown g out = 4 ∧ xlen g out = 1) {p0 p1 p2 : Int32} : jW (fun _ => True) Value.int (fun v : Int32 => v.toInt64.toUInt64) M_X0_explain M_X6_explain [.int p0, .int p1, .int p2] g x out S := by
  refine jW.mk ((J_explain h hK).toP) (by decide) ho (fun d v E hP hE h => SP_X0_explain_ok hx hE h) (fun t c hz => ?_)
  simp only [List.mem_cons, Prod.mk.injEq, List.not_mem_nil, or_false] at hz
  rcases hz with ⟨rfl, rfl⟩ | ⟨rfl, rfl⟩
  · exact ⟨⟨by decide, by decide⟩, fun d E h => SP_X0_explain_23 hx h⟩
  · exact ⟨⟨by decide, by decide⟩, fun d E h => SP_X0_explain_22 hx h⟩
theorem W_character {g : xG} {x out : Nat} {S : xMS} (h : xST g x S) (hK : xKs g) (hx : xtag g x = 1) (ho : xtag g out = 106 ∧ xown g out = 4 ∧ xlen g out = 1) {p0 : Int32} : jW (fun _ => True) Value.int (fun v : Int32 => v.toInt64.toUInt64) M_X0_character M_X6_character [.int p0] g x out S := by
  refine jW.mk ((J_character h hK).toP) (by decide) ho (fun d v E hP hE h => SP_X0_character_ok hx hE h) (fun t c hz => ?_)
  simp only [List.mem_cons, Prod.mk.injEq, List.not_mem_nil, or_false] at hz
  rcases hz with ⟨rfl, rfl⟩
  exact ⟨⟨by decide, by decide⟩, fun d E h => SP_X0_character_25 hx h⟩
theorem W_reason {g : xG} {x out : Nat} {S : xMS} (h : xST g x S) (hK : xKs g) (hx : xtag g x = 1) (ho : xtag g out = 106 ∧ xown g out = 4 ∧ xlen g out = 1) {b : Bool} : jW (fun _ => True) Value.int (fun v : Int32 => v.toInt64.toUInt64) M_X0_reason M_X6_reason [.int (bI b)] g x out S := by
  refine jW.mk ((J_reason h hK).toP) (by decide) ho (fun d v E hP hE h => SP_X0_reason_ok hx hE h) (fun t c hz => ?_)
  simp only [List.mem_cons, Prod.mk.injEq, List.not_mem_nil, or_false] at hz
  rcases hz with ⟨rfl, rfl⟩
  exact ⟨⟨by decide, by decide⟩, fun d E h => SP_X0_reason_25 hx h⟩
theorem W_account {g : xG} {x out : Nat} {S : xMS} (h : xST g x S) (hK : xKs g) (hx : xtag g x = 1) (ho : xtag g out = 106 ∧ xown g out = 4 ∧ xlen g out = 1) {p0 : Int32} : jW (fun _ => True) Value.int (fun v : Int32 => v.toInt64.toUInt64) M_X0_account M_X6_account [.int p0] g x out S := by
  refine jW.mk ((J_account h hK).toP) (by decide) ho (fun d v E hP hE h => SP_X0_account_ok hx hE h) (fun t c hz => ?_)
  simp only [List.mem_cons, Prod.mk.injEq, List.not_mem_nil, or_false] at hz
  rcases hz with ⟨rfl, rfl⟩
  exact ⟨⟨by decide, by decide⟩, fun d E h => SP_X0_account_22 hx h⟩
theorem W_undo {g : xG} {x out : Nat} {S : xMS} (h : xST g x S) (hK : xKs g) (hx : xtag g x = 1) (ho : xtag g out = 106 ∧ xown g out = 4 ∧ xlen g out = 1) : jW (fun _ => True) Value.int (fun v : Int32 => v.toInt64.toUInt64) M_X0_undo M_X6_undo [] g x out S := by
  refine jW.mk ((J_undo h hK).toP) (by decide) ho (fun d v E hP hE h => SP_X0_undo_ok hx hE h) (fun t c hz => ?_)
  simp only [List.mem_cons, Prod.mk.injEq, List.not_mem_nil, or_false] at hz
  rcases hz with ⟨rfl, rfl⟩
  exact ⟨⟨by decide, by decide⟩, fun d E h => SP_X0_undo_24 hx h⟩
theorem W_restore {g : xG} {x out : Nat} {S : xMS} (h : xST g x S) (hK : xKs g) (hx : xtag g x = 1) (ho : xtag g out = 106 ∧ xown g out = 4 ∧ xlen g out = 1) : jW (fun _ => True) Value.int (fun v : Int32 => v.toInt64.toUInt64) M_X0_restore M_X6_restore [] g x out S := by
  refine jW.mk ((J_restore h hK).toP) (by decide) ho (fun d v E hP hE h => SP_X0_restore_ok hx hE h) (fun t c hz => ?_)
  simp only [List.mem_cons, Prod.mk.injEq, List.not_mem_nil, or_false] at hz
  rcases hz with ⟨rfl, rfl⟩
  exact ⟨⟨by decide, by decide⟩, fun d E h => SP_X0_restore_24 hx h⟩
