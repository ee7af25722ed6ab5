/-! LAW 2: the state under frames and changes -/
set_option maxRecDepth 100000
/-- what the state is told by -/
def xAg2 (S S' : xMS) : Prop := (S' 1 = S 1 ∧ S' 3 = S 3 ∧ S' 4 = S 4) ∧ (S' 9 = S 9 ∧ S' 10 = S 10 ∧ S' 11 = S 11 ∧ S' 12 = S 12 ∧ S' 13 = S 13) ∧ (S' 0 3 = S 0 3 ∧ S' 0 5 = S 0 5 ∧ S' 0 14 = S 0 14) ∧ S' 0 7 = S 0 7 ∧ S' 0 8 = S 0 8 ∧ S' 0 17 = S 0 17 ∧ S' 0 22 = S 0 22 ∧ S' 0 25 = S 0 25 ∧ S' 0 33 = S 0 33
theorem xAg2.rf {S : xMS} : xAg2 S S := ⟨⟨rfl, rfl, rfl⟩, ⟨rfl, rfl, rfl, rfl, rfl⟩, ⟨rfl, rfl, rfl⟩, rfl, rfl, rfl, rfl, rfl, rfl⟩
theorem xAg2.tr {S T U : xMS} (h : xAg2 S T) (k : xAg2 T U) : xAg2 S U := by
  obtain ⟨⟨a1, a2, a3⟩, ⟨b1, b2, b3, b4, b5⟩, ⟨c1, c2, c3⟩, d1, d2, d3, d4, d5, d6⟩ := h
  obtain ⟨⟨e1, e2, e3⟩, ⟨f1, f2, f3, f4, f5⟩, ⟨g1, g2, g3⟩, h1, h2, h3, h4, h5, h6⟩ := k
  exact ⟨⟨e1.trans a1, e2.trans a2, e3.trans a3⟩, ⟨f1.trans b1, f2.trans b2, f3.trans b3, f4.trans b4, f5.trans b5⟩, ⟨g1.trans c1, g2.trans c2, g3.trans c3⟩, h1.trans d1, h2.trans d2, h3.trans d3, h4.trans d4, h5.trans d5, h6.trans d6⟩
theorem xAg2.m6 {S : xMS} {v : Int32} : xAg2 S (mset S 0 6 v) := ⟨⟨rfl, rfl, rfl⟩, ⟨rfl, rfl, rfl, rfl, rfl⟩, ⟨rfl, rfl, rfl⟩, rfl, rfl, rfl, rfl, rfl, rfl⟩
theorem xAg2.look {S : xMS} {C H : Nat → Bool} {a b : Nat} : xAg2 S (lookP S C H a b) := ⟨⟨rfl, rfl, rfl⟩, ⟨rfl, rfl, rfl, rfl, rfl⟩, ⟨rfl, rfl, rfl⟩, rfl, rfl, rfl, rfl, rfl, rfl⟩
theorem xAg2.chn {S : xMS} {L : List Nat} : xAg2 S (chnS S L) := ⟨⟨rfl, rfl, rfl⟩, ⟨rfl, rfl, rfl, rfl, rfl⟩, ⟨rfl, rfl, rfl⟩, rfl, rfl, rfl, rfl, rfl, rfl⟩
theorem xAg2.lk {S T : xMS} (h : lkEq S T) : xAg2 S T := by
  have e : ∀ p, p ≠ 6 → p ≠ 7 → T p = S p := h
  refine ⟨⟨e 1 (by decide) (by decide), e 3 (by decide) (by decide), e 4 (by decide) (by decide)⟩, ⟨e 9 (by decide) (by decide), e 10 (by decide) (by decide), e 11 (by decide) (by decide), e 12 (by decide) (by decide), e 13 (by decide) (by decide)⟩, ⟨?_, ?_, ?_⟩, ?_, ?_, ?_, ?_, ?_, ?_⟩ <;> rw [e 0 (by decide) (by decide)]
theorem xOt2.cong {g : xG} {x : Nat} {S S' : xMS} (h : xOt2 g x S) (e9 : S' 9 = S 9) (e10 : S' 10 = S 10) (e11 : S' 11 = S 11) (e12 : S' 12 = S 12) (e13 : S' 13 = S 13) (f7 : S' 0 7 = S 0 7) (f8 : S' 0 8 = S 0 8) (f17 : S' 0 17 = S 0 17) (f22 : S' 0 22 = S 0 22) (f25 : S' 0 25 = S 0 25) (f33 : S' 0 33 = S 0 33) : xOt2 g x S' := by
  unfold xOt2 xSh xRw2 at h ⊢
  rw [e9, e10, e11, e12, e13, f7, f8, f17, f22, f25, f33]
  exact h
theorem xST.cong {g : xG} {x : Nat} {S S' : xMS} (h : xST g x S) (e : xAg2 S S') : xST g x S' := by
  obtain ⟨⟨a1, a2, a3⟩, ⟨b1, b2, b3, b4, b5⟩, ⟨c1, c2, c3⟩, d1, d2, d3, d4, d5, d6⟩ := e
  obtain ⟨h14, p, lk, fa, ka, la, Z, n, rr, ww, dq, da, h9, ps, sv, hM, hP, hS, hN, hO⟩ := h
  refine ⟨c3.trans h14, p, lk, fa, ka, la, Z, n, rr, ww, dq, da, h9, ps, sv, ?_, ?_, ?_, hN, hO.cong b1 b2 b3 b4 b5 d1 d2 d3 d4 d5 d6⟩
  · unfold xMn at hM ⊢
    rw [a1]
    exact hM
  · unfold xPst at hP ⊢
    rw [a3, c2]
    exact hP
  · unfold xSvd at hS ⊢
    rw [a2, c1]
    exact hS
theorem xRwQ.fr {g g' : xG} {rw0 N : Nat} {s10 s11 : Nat → Int32} {O : Nat → Prop} (h : xRwQ g rw0 s10 s11) (F : xFr O N g g') (h16 : ¬ O 16) (h10 : ¬ O 10) : xRwQ g' rw0 s10 s11 := by
  obtain ⟨a2, a3, a4, a5⟩ := h
  have hs : rw0 < xsz g := xlt (by rw [a2]; decide)
  have ho : ¬ O (xown g rw0) := by rw [a3]; exact h16
  refine ⟨(F.tag hs).trans a2, (F.own hs).trans a3, (F.len hs).trans a4, fun r hr => ?_⟩
  rw [F.r' hs ho]
  rcases a5 r hr with q | ⟨a, m, q1, q2, q3, q4, q5, q6, q7⟩
  · exact Or.inl q
  · have ha : a < xsz g := xlt (by rw [q4]; decide)
    have hoa : ¬ O (xown g a) := by rw [q5]; exact h10
    exact Or.inr ⟨a, m, q1, q2, q3, (F.tag ha).trans q4, (F.own ha).trans q5, (F.len ha).trans q6, fun j hj => by rw [F.i' ha hoa]; exact q7 j hj⟩
theorem xOt2.fr {g g' : xG} {x N : Nat} {S : xMS} {O : Nat → Prop} (h : xOt2 g x S) (F : xFr O N g g') (hx : x < xsz g) (h1 : ¬ O (xown g x)) (b2 : ¬ O 2) (b8 : ¬ O 8) (b10 : ¬ O 10) (b11 : ¬ O 11) (b12 : ¬ O 12) (b16 : ¬ O 16) : xOt2 g' x S := by
  obtain ⟨⟨a1, a2⟩, a3, ⟨rw0, r1, r2⟩, ⟨tb, ln, ch, t1, t2, t3⟩, a6, eb, t, u1, u2, u3⟩ := h
  exact ⟨⟨(F.i' hx h1).trans a1, (F.i' hx h1).trans a2⟩, a3.fr F hx h1 b2 b8, ⟨rw0, (F.r' hx h1).trans r1, r2.fr F b16 b10⟩, ⟨tb, ln, ch, (F.r' hx h1).trans t1, t2.fr F b11, t3⟩, ⟨(F.i' hx h1).trans a6.1, a6.2⟩, eb, t, (F.r' hx h1).trans u1, u2.fr F b12, u3⟩
/-- the state, with its places told -/
def xSTp (g : xG) (x : Nat) (S : xMS) (p lk fa ka la : Nat) (Z : xAd) (n rr ww dq da h : Nat) (ps : List Nat) (sv : Option Nat) : Prop := S 0 14 = -1 ∧ xMn g x p lk fa ka la Z S n rr ww ∧ xPst g x dq da h S ps ∧ xSvd g x S sv ∧ (p :: (sv.toList ++ ps)).Nodup ∧ xOt2 g x S
theorem xST.p {g : xG} {x : Nat} {S : xMS} (h : xST g x S) : ∃ p lk fa ka la Z n rr ww dq da hh ps sv, xSTp g x S p lk fa ka la Z n rr ww dq da hh ps sv := by
  obtain ⟨h14, p, lk, fa, ka, la, Z, n, rr, ww, dq, da, h9, ps, sv, hM, hP, hS, hN, hO⟩ := h
  exact ⟨p, lk, fa, ka, la, Z, n, rr, ww, dq, da, h9, ps, sv, h14, hM, hP, hS, hN, hO⟩
section P
variable {g g' : xG} {x p lk fa ka la n rr ww dq da hh N : Nat} {Z : xAd} {S S' : xMS} {ps : List Nat} {sv : Option Nat} {O : Nat → Prop}
theorem xSTp.st (h : xSTp g x S p lk fa ka la Z n rr ww dq da hh ps sv) : xST g x S := ⟨h.1, p, lk, fa, ka, la, Z, n, rr, ww, dq, da, hh, ps, sv, h.2.1, h.2.2.1, h.2.2.2.1, h.2.2.2.2.1, h.2.2.2.2.2⟩
theorem xSTp.M (h : xSTp g x S p lk fa ka la Z n rr ww dq da hh ps sv) : xMn g x p lk fa ka la Z S n rr ww := h.2.1
theorem xSTp.Pa (h : xSTp g x S p lk fa ka la Z n rr ww dq da hh ps sv) : xPst g x dq da hh S ps := h.2.2.1
theorem xSTp.Sv (h : xSTp g x S p lk fa ka la Z n rr ww dq da hh ps sv) : xSvd g x S sv := h.2.2.2.1
theorem xSTp.Nd (h : xSTp g x S p lk fa ka la Z n rr ww dq da hh ps sv) : (p :: (sv.toList ++ ps)).Nodup := h.2.2.2.2.1
theorem xSTp.Ot (h : xSTp g x S p lk fa ka la Z n rr ww dq da hh ps sv) : xOt2 g x S := h.2.2.2.2.2
theorem xSTp.xl (h : xSTp g x S p lk fa ka la Z n rr ww dq da hh ps sv) : x < xsz g := xlt (by rw [h.M.tx]; decide)
theorem xPo.fr' {q : Nat} {s : Nat → Int32} (h : xPo g q s) (F : xFr O N g g') (h2 : ¬ O 2) (hP : ∀ o, oP q o → ¬ O o) : xPo g' q s := h.fr F hP h2
/-- .. under what writes no owner of its -/
theorem xSTp.fr (h : xSTp g x S p lk fa ka la Z n rr ww dq da hh ps sv) (F : xFr O N g g') (hO : ∀ o, O o → o = 3 ∨ o = 4 ∨ o = 5 ∨ o = 9 ∨ o = 13 ∨ o = 14 ∨ o = 15) : xSTp g' x S p lk fa ka la Z n rr ww dq da hh ps sv := by
  have nO : ∀ o, ¬ (o = 3 ∨ o = 4 ∨ o = 5 ∨ o = 9 ∨ o = 13 ∨ o = 14 ∨ o = 15) → ¬ O o := fun o h1 h2 => h1 (hO o h2)
  have hM := h.M
  have p0 := hM.P.p0
  have nx : ¬ O (xown g x) := by rw [hM.ox]; exact nO 1 (by omega)
  have nP : ∀ q, 0 < q → ∀ o, oP q o → ¬ O o := fun q q0 o h1 => nO o (by unfold oP at h1; omega)
  obtain ⟨p1, p2, p3, p4, p5⟩ := h.Pa
  obtain ⟨s1, s2, s3⟩ := h.Sv
  exact ⟨h.1, hM.frP F (nO 0 (by omega)) (nO 1 (by omega)) (nO 6 (by omega)) (hM.P.fr F (nP p p0) (nO 2 (by omega))), ⟨(F.r' h.xl nx).trans p1, p2.fr F (nO 7 (by omega)), p3, p4, fun k hk => (p5 k hk).fr F (nP _ (p5 k hk).p0) (nO 2 (by omega))⟩, ⟨(F.r' h.xl nx).trans s1, s2, fun q hq => (s3 q hq).fr F (nP _ (s3 q hq).p0) (nO 2 (by omega))⟩, h.Nd, h.Ot.fr F h.xl nx (nO 2 (by omega)) (nO 8 (by omega)) (nO 10 (by omega)) (nO 11 (by omega)) (nO 12 (by omega)) (nO 16 (by omega))⟩
theorem xSTp.fr6 (h : xSTp g x S p lk fa ka la Z n rr ww dq da hh ps sv) (F : xFr (oEq 6) N g g') (hB : xLb g' x lk fa ka la) : xSTp g' x S p lk fa ka la Z n rr ww dq da hh ps sv := by
  have hM := h.M
  have p0 := hM.P.p0
  have nO : ∀ o, o ≠ 6 → ¬ oEq 6 o := fun o h1 h2 => h1 h2
  have nx : ¬ oEq 6 (xown g x) := by rw [hM.ox]; exact nO 1 (by omega)
  have nP : ∀ q, 0 < q → ∀ o, oP q o → ¬ oEq 6 o := fun q q0 o h1 => nO o (by unfold oP at h1; omega)
  obtain ⟨p1, p2, p3, p4, p5⟩ := h.Pa
  obtain ⟨s1, s2, s3⟩ := h.Sv
  exact ⟨h.1, hM.fr6 F hB, ⟨(F.r' h.xl nx).trans p1, p2.fr F (nO 7 (by omega)), p3, p4, fun k hk => (p5 k hk).fr F (nP _ (p5 k hk).p0) (nO 2 (by omega))⟩, ⟨(F.r' h.xl nx).trans s1, s2, fun q hq => (s3 q hq).fr F (nP _ (s3 q hq).p0) (nO 2 (by omega))⟩, h.Nd, h.Ot.fr F h.xl nx (nO 2 (by omega)) (nO 8 (by omega)) (nO 10 (by omega)) (nO 11 (by omega)) (nO 12 (by omega)) (nO 16 (by omega))⟩
end P
