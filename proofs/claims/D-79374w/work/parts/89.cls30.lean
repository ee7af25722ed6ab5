/-! CLASS 30: the state under frames; a change that's kept -/
set_option maxRecDepth 100000
section F30
variable {O : Nat → Prop} {N : Nat} {g g' : xG} {x : Nat} {S S' : xMS}
theorem xTe.fr {b j : Nat} {s : Nat → Int32} (h : xTe g b s j) (F : xFr O N g g') (h2 : ¬ O 2) : xTe g' b s j := by
  obtain ⟨a1, a2, a3, a4, a5, a6, a7, a8, a9⟩ := h
  have hb : b < xsz g := xlt (by omega)
  have ho : ¬ O (xown g b) := by rw [a3]; exact h2
  refine ⟨by rw [F.tag hb]; exact a1, by rw [F.tag hb]; exact a2, (F.own hb).trans a3, a4, a5, a6, by rw [F.tag hb]; exact a7, (F.i' hb ho).trans a8, (F.i' hb ho).trans a9⟩
theorem xSB.fr {o a arr co : Nat} {cs : List Nat} (h : xSB g o a arr co cs) (F : xFr O N g g') (ho : ¬ O o) : xSB g' o a arr co cs := by
  obtain ⟨a1, a2, a3, a4, a5, a6, a7, a8, a9, a10, a11, a12, a13⟩ := h
  have ha : a < xsz g := xlt (by rw [a1]; decide)
  have hr : arr < xsz g := xlt (by rw [a7]; decide)
  have h1 : ¬ O (xown g a) := by rw [a2]; exact ho
  have h2 : ¬ O (xown g arr) := by rw [a8]; exact ho
  refine ⟨(F.tag ha).trans a1, (F.own ha).trans a2, (F.r' ha h1).trans a3, (F.i' ha h1).trans a4, a5, (F.i' ha h1).trans a6, (F.tag hr).trans a7, (F.own hr).trans a8, by rw [F.len hr]; exact a9, by rw [F.len hr]; exact a10, a11, fun e i hi => ?_, fun e i hi => ?_⟩
  · rw [F.i' hr h2]; exact a12 e i hi
  · rw [F.i' hr h2, F.i' hr h2]; exact a13 e i hi
theorem xTx.fr {o mx : Nat} {f : Option Nat} {t : Nat → Int32} {ln : Int32} (h : xTx g o f t ln mx) (F : xFr O N g g') (ho : ¬ O o) : xTx g' o f t ln mx := by
  obtain ⟨a, arr, co, cs, h1, h2, h3⟩ := h
  exact ⟨a, arr, co, cs, h1, h2.fr F ho, h3⟩
theorem xSh.fr (h : xSh g x S) (F : xFr O N g g') (hx : x < xsz g) (h1 : ¬ O (xown g x)) (h2 : ¬ O 2) (h8 : ¬ O 8) : xSh g' x S := by
  obtain ⟨sh, sg, a1, a2, a3, a4, a5, a6, a7⟩ := h
  have hs : sh < xsz g := xlt (by rw [a5]; split <;> omega)
  have ho : ¬ O (xown g sh) := by rw [a2]; exact h8
  refine ⟨sh, sg, (F.r' hx h1).trans a1, (F.own hs).trans a2, a3, a4, (F.tag hs).trans a5, (F.len hs).trans a6, fun k hk => ?_⟩
  rw [F.r' hs ho]
  rcases a7 k hk with q | ⟨b, q1, q2, q3⟩
  · exact Or.inl q
  · exact Or.inr ⟨b, q1, q2.fr F h2, q3⟩
theorem xRw.fr (h : xRw g x S) (F : xFr O N g g') (hx : x < xsz g) (h1 : ¬ O (xown g x)) (h8 : ¬ O 8) (h10 : ¬ O 10) : xRw g' x S := by
  obtain ⟨rw, a1, a2, a3, a4, a5⟩ := h
  have hs : rw < xsz g := xlt (by rw [a2]; decide)
  have ho : ¬ O (xown g rw) := by rw [a3]; exact h8
  refine ⟨rw, (F.r' hx h1).trans a1, (F.tag hs).trans a2, (F.own hs).trans a3, (F.len hs).trans a4, fun r hr => ?_⟩
  rw [F.r' hs ho]
  rcases a5 r hr with q | ⟨a, m, q1, q2, q3, q4, q5, q6, q7⟩
  · exact Or.inl q
  · have ha : a < xsz g := xlt (by rw [q4]; decide)
    have hoa : ¬ O (xown g a) := by rw [q5]; exact h10
    exact Or.inr ⟨a, m, q1, q2, q3, (F.tag ha).trans q4, (F.own ha).trans q5, (F.len ha).trans q6, fun j hj => by rw [F.i' ha hoa]; exact q7 j hj⟩
/-- owners that a change of policies leaves alone -/
def oKeep (O : Nat → Prop) : Prop := ¬ O 0 ∧ ¬ O 1 ∧ ¬ O 2 ∧ ¬ O 6 ∧ ¬ O 8 ∧ ¬ O 10 ∧ ¬ O 11 ∧ ¬ O 12
theorem xOt.fr (h : xOt g x S) (F : xFr O N g g') (hx : x < xsz g) (ho : xown g x = 1) (hO : ¬ O 1 ∧ ¬ O 2 ∧ ¬ O 8 ∧ ¬ O 10 ∧ ¬ O 11 ∧ ¬ O 12) : xOt g' x S := by
  obtain ⟨⟨a1, a2⟩, a3, a4, a5, a6, a7⟩ := h
  obtain ⟨b1, b2, b8, b10, b11, b12⟩ := hO
  have h1 : ¬ O (xown g x) := by rw [ho]; exact b1
  refine ⟨⟨(F.i' hx h1).trans a1, (F.i' hx h1).trans a2⟩, a3.fr F hx h1 b2 b8, a4.fr F hx h1 b8 b10, ?_, (F.i' hx h1).trans a6, ?_⟩
  · rw [F.r' hx h1]; exact a5.fr F b11
  · rw [F.r' hx h1]; exact a7.fr F b12
/-- what the rest of the state is told by -/
def xAgr (S S' : xMS) : Prop := S' 9 = S 9 ∧ S' 10 = S 10 ∧ S' 11 = S 11 ∧ S' 12 = S 12 ∧ S' 13 = S 13 ∧ S' 0 7 = S 0 7 ∧ S' 0 8 = S 0 8 ∧ S' 0 17 = S 0 17 ∧ S' 0 22 = S 0 22 ∧ S' 0 25 = S 0 25 ∧ S' 0 33 = S 0 33
theorem xOt.cong (h : xOt g x S) (e : xAgr S S') : xOt g x S' := by
  obtain ⟨e9, e10, e11, e12, e13, f7, f8, f17, f22, f25, f33⟩ := e
  unfold xOt xSh xRw at h ⊢
  rw [e9, e10, e11, e12, e13, f7, f8, f17, f22, f25, f33]
  exact h
end F30
section P30
variable {g g' : xG} {x p lk fa ka la n rr ww dq da h N : Nat} {Z : xAd} {S S' : xMS} {ps : List Nat} {sv : Option Nat}
theorem va_cpy_1 {f t : Nat → Int32} {sp dp c i : Nat} (h : dp ≤ i ∧ i < dp + c) : va_cpy f t sp dp c i = f (sp + (i - dp)) := if_pos h
theorem va_cpy_2 {f t : Nat → Int32} {sp dp c i : Nat} (h : ¬ (dp ≤ i ∧ i < dp + c)) : va_cpy f t sp dp c i = t i := if_neg h
/-- the past with one more -/
theorem push_4 {q k i : Nat} (hq : q ≤ 8) (hi : i < 391) : push S q 4 (391 * k + i) = if q = 8 then (if k = 7 then S 1 i else if k < 7 then S 4 (391 * (k + 1) + i) else push S q 4 (391 * k + i)) else if k = q then S 1 i else S 4 (391 * k + i) := by
  by_cases h8 : q = 8
  · rw [if_pos h8]
    by_cases h7 : k = 7
    · rw [if_pos h7]
      subst h7
      unfold push chg
      rw [if_pos h8, mset_q (by decide), mcpy_s, va_cpy_1 ⟨by omega, by omega⟩, mset_q (by decide), mcpy_q (by decide), mcpy_s, va_cpy_1 ⟨by omega, by omega⟩]
      congr 1
      omega
    · rw [if_neg h7]
      by_cases hk : k < 7
      · rw [if_pos hk]
        unfold push chg
        rw [if_pos h8, mset_q (by decide), mcpy_s, va_cpy_2 (by omega), mset_q (by decide), mcpy_s, va_cpy_1 ⟨by omega, by omega⟩, mcpy_q (by decide)]
        congr 1
        omega
      · rw [if_neg hk]
  · rw [if_neg h8]
    unfold push chg
    rw [if_neg h8, mset_q (by decide), mcpy_s]
    by_cases hk : k = q
    · rw [if_pos hk, va_cpy_1 ⟨by omega, by omega⟩, mcpy_s, va_cpy_1 ⟨by omega, by omega⟩]
      congr 1
      omega
    · rw [if_neg hk, va_cpy_2 (by omega), mcpy_q (by decide)]
theorem pastA_len {b : Nat} (h8 : ps.length ≤ 8) : (pastA ps b).length = if ps.length = 8 then 8 else ps.length + 1 := by
  unfold pastA
  by_cases e : ps.length = 8
  · rw [if_pos e, if_pos e, List.length_tail, List.length_append]; simp [e]
  · rw [if_neg e, if_neg e, List.length_append]; rfl
theorem pastA_get {b k : Nat} (h8 : ps.length ≤ 8) (hk : k < (pastA ps b).length) : (pastA ps b).getD k 0 = if ps.length = 8 then (if k = 7 then b else ps.getD (k + 1) 0) else (if k = ps.length then b else ps.getD k 0) := by
  rw [pastA_len h8] at hk
  unfold pastA
  by_cases e : ps.length = 8
  · rw [if_pos e] at hk ⊢
    rw [if_pos e, List.getD_eq_getElem?_getD, List.getElem?_tail]
    by_cases e7 : k = 7
    · rw [if_pos e7, e7, List.getElem?_append_right (by omega)]; simp [e]
    · rw [if_neg e7, List.getElem?_append_left (by omega), List.getD_eq_getElem?_getD]
  · rw [if_neg e] at hk ⊢
    rw [if_neg e]
    by_cases e7 : k = ps.length
    · rw [if_pos e7, e7, getD_app2]
    · rw [if_neg e7, getD_app1 (by omega)]
theorem pastA_sub {b c : Nat} (h : c ∈ pastA ps b) : c = b ∨ c ∈ ps := by
  unfold pastA at h
  split at h
  · have := List.mem_of_mem_tail h
    rcases List.mem_append.mp this with q | q
    · exact Or.inr q
    · exact Or.inl (List.mem_singleton.mp q)
  · rcases List.mem_append.mp h with q | q
    · exact Or.inr q
    · exact Or.inl (List.mem_singleton.mp q)
theorem pastA_nodup {b : Nat} (h : ps.Nodup) (hb : b ∉ ps) : (pastA ps b).Nodup := by
  have h2 : (ps ++ [b]).Nodup := List.nodup_append.mpr ⟨h, by simp, fun a ha c hc e => by rw [List.mem_singleton.mp hc] at e; rw [e] at ha; exact hb ha⟩
  unfold pastA
  split
  · exact h2.sublist (List.tail_sublist _)
  · exact h2
theorem xMn.fr {O : Nat → Prop} {Z' : xAd} {n' rr' ww' : Nat} (hM : xMn g x p lk fa ka la Z S n rr ww) (F : xFr O N g g') (hO : oKeep O) (hP : xPol g' p Z' (S' 1) n' rr' ww') : xMn g' x p lk fa ka la Z' S' n' rr' ww' := by
  obtain ⟨o0, o1, o2, o6, -⟩ := hO
  have hx : x < xsz g := xlt (by rw [hM.tx]; decide)
  have nx : ¬ O (xown g x) := by rw [hM.ox]; exact o1
  obtain ⟨e1, e2, e3⟩ := hM.em
  have he : (xE g).2.2.1 4 < xsz g := xlt (by rw [e1]; decide)
  have hl : lk < xsz g := xlt (by rw [hM.B.lt]; decide)
  exact ⟨⟨(F.tag hx).trans hM.tx, (F.own hx).trans hM.ox, (F.r' hx nx).trans hM.xp⟩, hP, (F.r' hx nx).trans hM.l3, hM.B.fr F (fun j _ => F.r' hl (by rw [hM.B.lko]; exact o6)), hM.cn.fr F o0, ⟨by rw [F.e, F.tag he]; exact e1, by rw [F.e, F.len he]; exact e2, by rw [F.e, F.own he]; exact e3⟩⟩
/-- the past's ints with one more -/
def MiniP (S : xMS) (q k i : Nat) : Int32 := if q = 8 then (if k = 7 then S 1 i else S 4 (391 * (k + 1) + i)) else if k = q then S 1 i else S 4 (391 * k + i)
/-- a change, kept: the policy p has become another, a copy of what it was lies in the past -/
theorem xNS.push {O : Nat → Prop} {Z' : xAd} {b h' n' rr' ww' : Nat} (hM : xMn g x p lk fa ka la Z S n rr ww) (hPa : xPst g x dq da h S ps) (hS : xSvd g x S sv) (hN : (p :: (sv.toList ++ ps)).Nodup) (hT : xOt g x S)
    (F : xFr O N g g') (hO : oKeep O) (hO2 : ∀ o, O o → o < 1000 ∨ oP p o ∨ 1000 * xsz g ≤ o) (hP : xPol g' p Z' (S' 1) n' rr' ww') (hb : xPo g' b (S 1)) (hbn : xsz g ≤ b) (hD : xAD g' 7 dq da h' (pastA ps b))
    (e3 : S' 3 = S 3) (f3 : S' 0 3 = S 0 3) (e4 : ∀ k i, k < 8 → i < 391 → S' 4 (391 * k + i) = MiniP S ps.length k i) (f5 : S' 0 5 = nI (if ps.length = 8 then 8 else ps.length + 1)) (eA : xAgr S S') : xNS g' x S' := by
  have hx : x < xsz g := xlt (by rw [hM.tx]; decide)
  have nx : ¬ O (xown g x) := by rw [hM.ox]; exact hO.2.1
  obtain ⟨p1, p2, p3, p4, p5⟩ := hPa
  obtain ⟨s1, s2, s3⟩ := hS
  have hlt := hM.P.lt
  have p0 := hM.P.p0
  rw [List.nodup_cons] at hN
  obtain ⟨hN1, hN2⟩ := hN
  rw [List.nodup_append] at hN2
  obtain ⟨hN3, hN4, hN5⟩ := hN2
  have old : ∀ q s, q ≠ p → xPo g q s → xPo g' q s := fun q s hq hp => hp.fr F (fun o h1 h2 => by
    have := hp.lt
    have := hp.p0
    unfold oP at h1
    rcases hO2 o h2 with z | z | z
    · omega
    · unfold oP at z; omega
    · omega) hO.2.2.1
  refine ⟨p, lk, fa, ka, la, Z', n', rr', ww', dq, da, h', pastA ps b, sv, hM.fr F hO hP, ⟨(F.r' hx nx).trans p1, hD, by rw [f5, pastA_len p4], by rw [pastA_len p4]; split <;> omega, fun k hk => ?_⟩, ⟨(F.r' hx nx).trans s1, by rw [f3]; exact s2, fun q hq => ?_⟩, ?_, (hT.fr F hx hM.ox ⟨hO.2.1, hO.2.2.1, hO.2.2.2.2.1, hO.2.2.2.2.2.1, hO.2.2.2.2.2.2.1, hO.2.2.2.2.2.2.2⟩).cong eA⟩
  · rw [pastA_get p4 hk]
    rw [pastA_len p4] at hk
    have hk8 : k < 8 := by split at hk <;> omega
    have hcg : ∀ (q : Nat) (t : Nat → Int32), xPo g' q t → (∀ i, i < 391 → MiniP S ps.length k i = t i) → xPo g' q (fun i => S' 4 (391 * k + i)) := fun q t hq ht => hq.cong (fun i hi => by rw [e4 k i hk8 hi]; exact ht i hi)
    by_cases e8 : ps.length = 8
    · rw [if_pos e8] at hk ⊢
      by_cases e7 : k = 7
      · rw [if_pos e7]
        exact hcg b (S 1) hb (fun i hi => by unfold MiniP; rw [if_pos e8, if_pos e7])
      · rw [if_neg e7]
        have hm : ps.getD (k + 1) 0 ∈ ps := by rw [List.getD_eq_getElem?_getD, List.getElem?_eq_getElem (by omega)]; exact List.getElem_mem _
        refine hcg _ (fun i => S 4 (391 * (k + 1) + i)) (old _ _ (fun e => hN1 (by rw [← e]; exact List.mem_append.mpr (Or.inr hm))) (p5 (k + 1) (by omega))) (fun i hi => by unfold MiniP; rw [if_pos e8, if_neg e7])
    · rw [if_neg e8] at hk ⊢
      by_cases e7 : k = ps.length
      · rw [if_pos e7]
        exact hcg b (S 1) hb (fun i hi => by unfold MiniP; rw [if_neg e8, if_pos e7])
      · rw [if_neg e7]
        have hm : ps.getD k 0 ∈ ps := by rw [List.getD_eq_getElem?_getD, List.getElem?_eq_getElem (by omega)]; exact List.getElem_mem _
        refine hcg _ (fun i => S 4 (391 * k + i)) (old _ _ (fun e => hN1 (by rw [← e]; exact List.mem_append.mpr (Or.inr hm))) (p5 k (by omega))) (fun i hi => by unfold MiniP; rw [if_neg e8, if_neg e7])
  · rw [e3]
    exact old q _ (fun e => hN1 (by rw [← e, hq]; exact List.mem_append.mpr (Or.inl (by simp)))) (s3 q hq)
  · have hbp : b ≠ p := by omega
    have hbps : b ∉ ps := fun hm => by
      obtain ⟨k, hk, e⟩ := List.getElem_of_mem hm
      have := (p5 k hk).lt
      rw [List.getD_eq_getElem?_getD, List.getElem?_eq_getElem hk, Option.getD_some, e] at this
      omega
    have hbs : b ∉ sv.toList := fun hm => by
      cases sv with
      | none => simp at hm
      | some q =>
        have e : b = q := by simpa using hm
        have := (s3 q rfl).lt
        omega
    rw [List.nodup_cons, List.nodup_append]
    refine ⟨fun hm => ?_, hN3, pastA_nodup hN4 hbps, fun a ha c hc e => ?_⟩
    · rcases List.mem_append.mp hm with q | q
      · exact hN1 (List.mem_append.mpr (Or.inl q))
      · rcases pastA_sub q with q | q
        · exact hbp q.symm
        · exact hN1 (List.mem_append.mpr (Or.inr q))
    · rcases pastA_sub hc with q | q
      · rw [q] at e; rw [e] at ha; exact hbs ha
      · exact hN5 a ha c q e
end P30
