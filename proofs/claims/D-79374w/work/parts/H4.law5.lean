/-! LAW 5: branches of an op -/
set_option maxRecDepth 100000
theorem xCs.lb {g : xG} {x lk fa ka la p n rr ww k : Nat} {Z : xAd} {s : Nat → Int32} {day feats wo : Int32} {H : Nat → Bool} (h : xCs g x lk fa ka la p Z s n rr ww k day feats wo H) : xLb g x lk fa ka la :=
  ⟨⟨h.lt, h.l0, h.l1, h.l5, h.l7⟩, ⟨h.fat, h.K.2.2.2.2.2.2.2.2.1, h.kat, h.kal, h.lat, h.lal⟩, ⟨h.lko, h.fao, h.kao6, h.lao⟩, h.ne⟩
section M
variable {Mr : xM} {as : List Value} {S S' : xMS} {b : Value} {c : Nat}
theorem jM.one {T : xMS} (h : ∀ d g1 m, xMod g1 m → XM Mr (d + 90) (.ref m :: as) (xWith g1 m S) (xOne (some b) (xWith g1 m T))) (h6 : T 0 6 = nI c) (ha : xAg2 S' T) : jM Mr as S b c S' := fun d g1 m hM h3 _ => (h d g1 m hM).mono (fun rs g' ⟨e1, e2⟩ _ => ⟨e1, g1, T, e2, ha, h6, hM, h3, xFr.rf⟩)
theorem jM.lk {v : Int32} {T : xMS} (h : ∀ d g1 m, xMod g1 m → XM Mr (d + 90) (.ref m :: as) (xWith g1 m S) (xLk g1 m T v)) (h6 : T 0 6 = nI c) (ha : xAg2 S' T) : jM Mr as S (.int v) c S' := fun d g1 m hM h3 _ => (h d g1 m hM).mono (fun rs g' ⟨e1, U, e2, e3⟩ _ => ⟨e1, g1, U, e3, ha.tr (xAg2.lk e2), by rw [e2 0 (by decide) (by decide)]; exact h6, hM, h3, xFr.rf⟩)
theorem xAg2.lkC {S T : xMS} (h : lkC S T) : xAg2 S T := by
  obtain ⟨h1, h2⟩ := h
  exact ⟨⟨h1 1 (by decide) (by decide) (by decide) (by decide), h1 3 (by decide) (by decide) (by decide) (by decide), h1 4 (by decide) (by decide) (by decide) (by decide)⟩, ⟨h1 9 (by decide) (by decide) (by decide) (by decide), h1 10 (by decide) (by decide) (by decide) (by decide), h1 11 (by decide) (by decide) (by decide) (by decide), h1 12 (by decide) (by decide) (by decide) (by decide), h1 13 (by decide) (by decide) (by decide) (by decide)⟩, ⟨h2 3 (by decide), h2 5 (by decide), h2 14 (by decide)⟩, h2 7 (by decide), h2 8 (by decide), h2 17 (by decide), h2 22 (by decide), h2 25 (by decide), h2 33 (by decide)⟩
theorem jM.lkC {v : Int32} {T : xMS} (h : ∀ d g1 m, xMod g1 m → XM Mr (d + 90) (.ref m :: as) (xWith g1 m S) (xLkC g1 m T v)) (h6 : T 0 6 = nI c) (ha : xAg2 S' T) : jM Mr as S (.int v) c S' := fun d g1 m hM h3 _ => (h d g1 m hM).mono (fun rs g' ⟨e1, U, e2, e3⟩ _ => ⟨e1, g1, U, e3, ha.tr (xAg2.lkC e2), by rw [e2.2 6 (by decide)]; exact h6, hM, h3, xFr.rf⟩)
end M
theorem oC9 : oC 9 := ⟨by decide, by decide, by decide⟩
theorem exc_fr {g : xG} {t : Nat} {O : Nat → Prop} {N : Nat} {g0 : xG} (h : xFr O N g0 g) (hN : N + 7 ≤ 45000) (hO : ∀ o, O o → oC o) : xFr oC 45000 g0 (xExc g t) := (xExc.fr h).sub hO hN
section P
variable {g g' : xG} {x p lk fa ka la n rr ww dq da hh N : Nat} {Z Z' : xAd} {S S' : xMS} {ps : List Nat} {sv : Option Nat} {O : Nat → Prop} {M : xM} {as : List Value}
/-- anything written that leaves the state's frame -/
theorem xSTp.gen (h : xSTp g x S p lk fa ka la Z n rr ww dq da hh ps sv) (F : xFr O N g g') (o0 : ¬ O 0) (o2 : ¬ O 2) (o7 : ¬ O 7) (hO2 : ∀ o, O o → o < 1000 ∨ oP p o ∨ 1000 * xsz g ≤ o) (hr : ∀ j, j < 4 → xr g' x j = xr g x j) (hP : xPol g' p Z' (S' 1) n rr ww) (hB : xLb g' x lk fa ka la)
    (e3 : S' 3 = S 3) (e4 : S' 4 = S 4) (f3 : S' 0 3 = S 0 3) (f5 : S' 0 5 = S 0 5) (f14 : S' 0 14 = S 0 14) (hT : xOt2 g' x S') : xSTp g' x S' p lk fa ka la Z' n rr ww dq da hh ps sv := by
  have hM := h.M
  have hx := h.xl
  obtain ⟨p1, p2, p3, p4, p5⟩ := h.Pa
  obtain ⟨s1, s2, s3⟩ := h.Sv
  have hN := h.Nd
  rw [List.nodup_cons] at hN
  have hp := hM.P.lt
  have p0 := hM.P.p0
  obtain ⟨e1, e2, e5⟩ := hM.em
  have he : (xE g).2.2.1 4 < xsz g := xlt (by rw [e1]; decide)
  have old : ∀ q s, q ≠ p → xPo g q s → xPo g' q s := fun q s hq hpo => hpo.fr F (fun o h1 h2 => by
    have := hpo.lt
    have := hpo.p0
    unfold oP at h1
    rcases hO2 o h2 with z | z | z
    · omega
    · unfold oP at z; omega
    · omega) o2
  refine ⟨f14.trans h.1, ⟨⟨(F.tag hx).trans hM.tx, (F.own hx).trans hM.ox, (hr 0 (by decide)).trans hM.xp⟩, hP, (hr 3 (by decide)).trans hM.l3, hB, hM.cn.fr F o0, by rw [F.e, F.tag he]; exact e1, by rw [F.e, F.len he]; exact e2, by rw [F.e, F.own he]; exact e5⟩, ⟨(hr 2 (by decide)).trans p1, p2.fr F o7, f5.trans p3, p4, fun k hk => ?_⟩, ⟨(hr 1 (by decide)).trans s1, f3.trans s2, fun q hq => ?_⟩, h.Nd, hT⟩
  · rw [e4]
    have hm : ps.getD k 0 ∈ ps := by rw [List.getD_eq_getElem?_getD, List.getElem?_eq_getElem hk]; exact List.getElem_mem _
    exact old _ _ (fun e => hN.1 (by rw [← e]; exact List.mem_append.mpr (Or.inr hm))) (p5 k hk)
  · rw [e3]
    exact old _ _ (fun e => hN.1 (by rw [← e, hq]; exact List.mem_append.mpr (Or.inl (by simp)))) (s3 q hq)
theorem ot_sh (h : xOt2 g x S) (F : xFr O N g g') (r6 : xr g' x 6 = xr g x 6) (b2 : ¬ O 2) (b8 : ¬ O 8) (e9 : S' 9 = S 9) (f17 : S' 0 17 = S 0 17) : xSh g' x S' := by
  obtain ⟨-, ⟨sh, sg, a1, a2, a3, a4, a5, a6, a7⟩, -⟩ := h
  have q : xShQ g sh (if sg = 4 then 8 else 9 + sg) sg (S 9) := ⟨a2, a4, by rw [a5]; split <;> omega, rfl, a6, a7⟩
  exact (e9 ▸ q.fr F b2 b8 : xShQ g' sh _ sg (S' 9)).sh (r6.trans a1) (f17.trans a3)
theorem ot_rw (h : xOt2 g x S) (F : xFr O N g g') (r7 : xr g' x 7 = xr g x 7) (b10 : ¬ O 10) (b16 : ¬ O 16) (e10 : S' 10 = S 10) (e11 : S' 11 = S 11) : xRw2 g' x S' := by
  obtain ⟨-, -, ⟨rw0, a1, a2⟩, -⟩ := h
  exact ⟨rw0, r7.trans a1, by rw [e10, e11]; exact a2.fr F b16 b10⟩
theorem ot_tx (h : xOt2 g x S) (F : xFr O N g g') (r8 : xr g' x 8 = xr g x 8) (b11 : ¬ O 11) (e12 : S' 12 = S 12) (f22 : S' 0 22 = S 0 22) : ∃ tb ln ch, xr g' x 8 = some tb ∧ xBd g' 11 tb ln ch ∧ ln ≤ 60 ∧ S' 0 22 = nI ln ∧ ∀ j, j < ln → S' 12 j = nI (ch j) ∧ ch j < 65536 := by
  obtain ⟨-, -, -, ⟨tb, ln, ch, a1, a2, a3, a4, a5⟩, -⟩ := h
  exact ⟨tb, ln, ch, r8.trans a1, a2.fr F b11, a3, f22.trans a4, by rw [e12]; exact a5⟩
theorem ot_ex (h : xOt2 g x S) (F : xFr O N g g') (r10 : xr g' x 10 = xr g x 10) (b12 : ¬ O 12) (e13 : S' 13 = S 13) (f33 : S' 0 33 = S 0 33) : ∃ eb t, xr g' x 10 = some eb ∧ xBT g' 12 eb t ∧ t.length ≤ 200 ∧ S' 0 33 = nI t.length ∧ ∀ j, j < t.length → S' 13 j = nI (t.getD j 0) := by
  obtain ⟨-, -, -, -, -, eb, t, a1, a2, a3, a4, a5⟩ := h
  exact ⟨eb, t, r10.trans a1, a2.fr F b12, a3, f33.trans a4, by rw [e13]; exact a5⟩
theorem xSTp.thr (hp : xSTp g x S p lk fa ka la Z n rr ww dq da hh ps sv) {t : Nat} (h : ∀ d, XM M (d + 90) as g (xThr (xsz g) (xExc g t))) : ∀ d, XM M (d + 90) as g (xErr t (jE g x S)) := fun d => (h d).mono (fun rs g' ⟨e1, e2⟩ _ => by
  subst e2
  have F : xFr (oEq 9) 7 g (xExc g t) := xExc.fr (xFr.rf (n := 0))
  exact ⟨_, e1, xExc_tag, xExc_own, (hp.fr F (fun o ho => by unfold oEq at ho; omega)).st, F.sub (fun o ho => by rw [ho]; exact oC9) (by omega)⟩)
theorem xSTp.one (hp : xSTp g x S p lk fa ka la Z n rr ww dq da hh ps sv) {v : Value} (h : ∀ d, XM M (d + 90) as g (xOne (some v) g)) : ∀ d, XM M (d + 90) as g (xVal v (jE g x S)) := fun d => (h d).mono (fun rs g' ⟨e1, e2⟩ _ => by
  subst e2
  exact ⟨e1, hp.st, xFr.rf⟩)
theorem o6C : ∀ o, oEq 6 o → oC o := fun o ho => by rw [ho]; exact ⟨by decide, by decide, by decide⟩
theorem xSTp.lb (hp : xSTp g x S p lk fa ka la Z n rr ww dq da hh ps sv) {v : Value} (hN : N ≤ 44000) (h : ∀ d, XM M (d + 90) as g (xVal v (fun g' => xLb g' x lk fa ka la ∧ xFr (oEq 6) N g g'))) : ∀ d, XM M (d + 90) as g (xVal v (jE g x S)) := fun d => (h d).mono (fun rs g' ⟨e1, e2, e3⟩ _ => ⟨e1, (hp.fr6 e3 e2).st, e3.sub o6C (by omega)⟩)
theorem xSTp.cs (hp : xSTp g x S p lk fa ka la Z n rr ww dq da hh ps sv) {v : Value} {k : Nat} {day feats wo : Int32} {H : Nat → Bool} (h : ∀ d, XM M (d + 90) as g (xVal v (fun g' => xCs g' x lk fa ka la p Z (S 1) n rr ww k day feats wo H ∧ xFr (oEq 6) 0 g g'))) : ∀ d, XM M (d + 90) as g (xVal v (jE g x S)) := hp.lb (N := 0) (by omega) (fun d => (h d).mono (fun rs g' ⟨e1, e2, e3⟩ _ => ⟨e1, e2.lb, e3⟩))
theorem xSTp.thF (hp : xSTp g x S p lk fa ka la Z n rr ww dq da hh ps sv) {t : Nat} (h : ∀ d, XM M (d + 90) as g (xThF (fun g' => xLb g' x lk fa ka la ∧ xFr (oEq 6) 0 g g') t)) : ∀ d, XM M (d + 90) as g (xErr t (jE g x S)) := fun d => (h d).mono (fun rs g' ⟨g1, ⟨e2, e3⟩, e1, e4⟩ _ => by
  subst e4
  have F : xFr (oEq 9) 7 g1 (xExc g1 t) := xExc.fr (xFr.rf (n := 0))
  have h1 := hp.fr6 e3 e2
  refine ⟨_, e1, xExc_tag, xExc_own, (h1.fr F (fun o ho => by unfold oEq at ho; omega)).st, ?_⟩
  exact exc_fr e3 (by omega) o6C)
theorem xSTp.csF (hp : xSTp g x S p lk fa ka la Z n rr ww dq da hh ps sv) {t k : Nat} {day feats wo : Int32} {H : Nat → Bool} (h : ∀ d, XM M (d + 90) as g (xThF (fun g' => xCs g' x lk fa ka la p Z (S 1) n rr ww k day feats wo H ∧ xFr (oEq 6) 0 g g') t)) : ∀ d, XM M (d + 90) as g (xErr t (jE g x S)) := hp.thF (fun d => (h d).mono (fun rs g' ⟨g1, ⟨e2, e3⟩, e1⟩ _ => ⟨g1, ⟨e2.lb, e3⟩, e1⟩))
/-- the reference's state is pushed -/
def pAg (S S' : xMS) (q : Nat) : Prop := (S' 3 = S 3 ∧ S' 9 = S 9 ∧ S' 10 = S 10 ∧ S' 11 = S 11 ∧ S' 12 = S 12 ∧ S' 13 = S 13) ∧ S' 4 = push S q 4 ∧ ∀ j, j ≠ 6 → j ≠ 9 → j ≠ 11 → S' 0 j = push S q 0 j
theorem xSTp.chd (hp : xSTp g x S p lk fa ka la Z n rr ww dq da hh ps sv) {v : Value} {s' : Nat → Int32} {n' rr' ww' : Nat} (ha : pAg S S' ps.length) (hs : ∀ j, j < 391 → S' 1 j = s' j) (h : ∀ d, XM M (d + 90) as g (xVal v (xChd g p dq da (S 1) ps s' n' rr' ww'))) : ∀ d, XM M (d + 90) as g (xVal v (jE g x S')) := fun d => (h d).mono (fun rs g' ⟨e1, Z', h', b, c1, c2, c3, c4, F⟩ _ => by
  obtain ⟨⟨a3, a9, a10, a11, a12, a13⟩, a4, a0⟩ := ha
  have hq := hp.Pa.2.2.2.1
  have p0 := hp.M.P.p0
  have pl := hp.M.P.lt
  have n0 : ∀ o, o ≠ 5 → o ≠ 7 → o < 1000 → ¬ oCh p (xsz g) o := fun o h1 h2 h3 h4 => by unfold oCh oP at h4; omega
  have nx : ¬ oCh p (xsz g) (xown g x) := by rw [hp.M.ox]; exact n0 1 (by decide) (by decide) (by decide)
  have p00 : ∀ j, j ≠ 5 → push S ps.length 0 j = S 0 j := fun j hj => by rw [push_0, if_neg hj]
  have g0 : ∀ j, j ≠ 5 → j ≠ 6 → j ≠ 9 → j ≠ 11 → S' 0 j = S 0 j := fun j h5 h6 h9 h11 => (a0 j h6 h9 h11).trans (p00 j h5)
  refine ⟨e1, push2 hp F (n0 0 (by decide) (by decide) (by decide)) (n0 1 (by decide) (by decide) (by decide)) (n0 2 (by decide) (by decide) (by decide)) (n0 6 (by decide) (by decide) (by decide)) (fun o ho => by unfold oCh oP at ho; unfold oP; omega) (c1.cong hs) c3 c2 c4 a3 (g0 3 (by decide) (by decide) (by decide) (by decide)) ?_ ?_ (g0 14 (by decide) (by decide) (by decide) (by decide)) ?_, F.sub (fun o ho => ?_) (by omega)⟩
  · intro k i hk hi
    rw [a4, push_4 hq hi]
    unfold MiniP
    split
    · split
      · rfl
      · rw [if_pos (by omega)]
    · rfl
  · rw [a0 5 (by decide) (by decide) (by decide), push_0, if_pos rfl]
  · exact (hp.Ot.fr F hp.xl nx (n0 2 (by decide) (by decide) (by decide)) (n0 8 (by decide) (by decide) (by decide)) (n0 10 (by decide) (by decide) (by decide)) (n0 11 (by decide) (by decide) (by decide)) (n0 12 (by decide) (by decide) (by decide)) (n0 16 (by decide) (by decide) (by decide))).cong a9 a10 a11 a12 a13 (g0 7 (by decide) (by decide) (by decide) (by decide)) (g0 8 (by decide) (by decide) (by decide) (by decide)) (g0 17 (by decide) (by decide) (by decide) (by decide)) (g0 22 (by decide) (by decide) (by decide) (by decide)) (g0 25 (by decide) (by decide) (by decide) (by decide)) (g0 33 (by decide) (by decide) (by decide) (by decide))
  · unfold oCh oP at ho
    unfold oC
    omega)
/-- refused: reason and detail -/
def rS (S : xMS) (v : Nat × Int32) : xMS := mset (mset S 0 7 (nI v.1)) 0 8 v.2
theorem xSTp.rfO (hp : xSTp g x S p lk fa ka la Z n rr ww dq da hh ps sv) {v : Nat × Int32} (hN : N ≤ 45000) (h : ∀ d, XM M (d + 90) as g (xRefO g x (fun o => o = 5 ∨ oP p o ∨ 1000 * xsz g ≤ o) N v (fun g' => ∃ Z', xPol g' p Z' (S 1) n rr ww))) : ∀ d, XM M (d + 90) as g (xErr 26 (jE g x (rS S v))) := fun d => (h d).mono (fun rs g' ⟨q, e1, e2, e3, F, i4, i5, i6, r, Z', hP⟩ _ => by
  have p0 := hp.M.P.p0
  have pl := hp.M.P.lt
  have nn : ∀ o, o ≠ 1 → o ≠ 5 → o < 1000 → ¬ (o = 1 ∨ (fun o => o = 5 ∨ oP p o ∨ 1000 * xsz g ≤ o) o) := fun o h1 h2 h3 h4 => by
    simp only [oP] at h4
    omega
  have hl : lk < xsz g := xlt (by rw [hp.M.B.lt]; decide)
  have hT := hp.Ot
  have hB := hp.M.B.fr F (fun j _ => F.r' hl (by rw [hp.M.B.lko]; exact nn 6 (by decide) (by decide) (by decide)))
  refine ⟨q, e1, e2, e3, (hp.gen (S' := rS S v) F (nn 0 (by decide) (by decide) (by decide)) (nn 2 (by decide) (by decide) (by decide)) (nn 7 (by decide) (by decide) (by decide)) (fun o ho => by simp only [oP] at ho ⊢; omega) (fun j _ => r j) hP hB rfl rfl rfl rfl rfl ⟨⟨i4, i5⟩, ot_sh hT F (r 6) (nn 2 (by decide) (by decide) (by decide)) (nn 8 (by decide) (by decide) (by decide)) rfl rfl, ot_rw hT F (r 7) (nn 10 (by decide) (by decide) (by decide)) (nn 16 (by decide) (by decide) (by decide)) rfl rfl, ot_tx hT F (r 8) (nn 11 (by decide) (by decide) (by decide)) rfl rfl, ⟨(i6 9 (by decide) (by decide)).trans hT.2.2.2.2.1.1, hT.2.2.2.2.1.2⟩, ot_ex hT F (r 10) (nn 12 (by decide) (by decide) (by decide)) rfl rfl⟩).st, F.sub (fun o ho => ?_) hN⟩
  simp only [oP] at ho
  unfold oC
  omega)
theorem xSTp.rf (hp : xSTp g x S p lk fa ka la Z n rr ww dq da hh ps sv) {v : Nat × Int32} (h : ∀ d, XM M (d + 90) as g (xRef g x v)) : ∀ d, XM M (d + 90) as g (xErr 26 (jE g x (rS S v))) := hp.rfO (N := 100) (by omega) (fun d => (h d).mono (fun rs g' ⟨q, e1, e2, e3, F, i4, i5, i6, r⟩ _ => ⟨q, e1, e2, e3, F.sub (fun o ho => by rcases ho with h | h <;> simp [h]) (by omega), i4, i5, i6, r, Z, hp.M.P.fr F (fun o h1 h2 => by
  have p0 := hp.M.P.p0
  unfold oP at h1
  omega) (by omega)⟩))
end P
