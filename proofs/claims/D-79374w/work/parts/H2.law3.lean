/-! LAW 3: a change kept -/
set_option maxRecDepth 100000
theorem xMn.frQ {g g' : xG} {x p lk fa ka la n rr ww N : Nat} {Z : xAd} {S S' : xMS} {O : Nat → Prop} {Z' : xAd} {n' rr' ww' : Nat} (hM : xMn g x p lk fa ka la Z S n rr ww) (F : xFr O N g g') (o0 : ¬ O 0) (o1 : ¬ O 1) (o6 : ¬ O 6) (hP : xPol g' p Z' (S' 1) n' rr' ww') : xMn g' x p lk fa ka la Z' S' n' rr' ww' := by
  have hx : x < xsz g := xlt (by rw [hM.tx]; decide)
  have nx : ¬ O (xown g x) := by rw [hM.ox]; exact o1
  obtain ⟨e1, e2, e3⟩ := hM.em
  have he : (xE g).2.2.1 4 < xsz g := xlt (by rw [e1]; decide)
  have hl : lk < xsz g := xlt (by rw [hM.B.lt]; decide)
  exact ⟨⟨(F.tag hx).trans hM.tx, (F.own hx).trans hM.ox, (F.r' hx nx).trans hM.xp⟩, hP, (F.r' hx nx).trans hM.l3, hM.B.fr F (fun j _ => F.r' hl (by rw [hM.B.lko]; exact o6)), hM.cn.fr F o0, ⟨by rw [F.e, F.tag he]; exact e1, by rw [F.e, F.len he]; exact e2, by rw [F.e, F.own he]; exact e3⟩⟩
theorem push2 {g g' : xG} {x p lk fa ka la n rr ww dq da h N : Nat} {Z : xAd} {S S' : xMS} {ps : List Nat} {sv : Option Nat} {O : Nat → Prop} {Z' : xAd} {b h' n' rr' ww' : Nat} (hA : xSTp g x S p lk fa ka la Z n rr ww dq da h ps sv)
    (F : xFr O N g g') (o0 : ¬ O 0) (o1 : ¬ O 1) (o2 : ¬ O 2) (o6 : ¬ O 6) (hO2 : ∀ o, O o → o < 1000 ∨ oP p o ∨ 1000 * xsz g ≤ o) (hP : xPol g' p Z' (S' 1) n' rr' ww') (hb : xPo g' b (S 1)) (hbn : xsz g ≤ b) (hD : xAD g' 7 dq da h' (pastA ps b))
    (e3 : S' 3 = S 3) (f3 : S' 0 3 = S 0 3) (e4 : ∀ k i, k < 8 → i < 391 → S' 4 (391 * k + i) = MiniP S ps.length k i) (f5 : S' 0 5 = nI (if ps.length = 8 then 8 else ps.length + 1)) (f14 : S' 0 14 = S 0 14) (hT' : xOt2 g' x S') : xST g' x S' := by
  have hM := hA.M
  have hPa := hA.Pa
  have hS := hA.Sv
  have hN := hA.Nd
  have hx : x < xsz g := xlt (by rw [hM.tx]; decide)
  have nx : ¬ O (xown g x) := by rw [hM.ox]; exact o1
  obtain ⟨p1, p2, p3, p4, p5⟩ := hPa
  obtain ⟨s1, s2, s3⟩ := hS
  have hlt := hM.P.lt
  have p0 := hM.P.p0
  rw [List.nodup_cons] at hN
  obtain ⟨hN1, hN2⟩ := hN
  rw [List.nodup_append] at hN2
  obtain ⟨hN3, hN4, hN5⟩ := hN2
  have old : ∀ q s, q ≠ p → xPo g q s → xPo g' q s := fun q s hq hp => hp.fr F (fun o h1 h2 => by
    have := hp.lt
    have := hp.p0
    unfold oP at h1
    rcases hO2 o h2 with z | z | z
    · omega
    · unfold oP at z; omega
    · omega) o2
  refine ⟨f14.trans hA.1, p, lk, fa, ka, la, Z', n', rr', ww', dq, da, h', pastA ps b, sv, hM.frQ F o0 o1 o6 hP, ⟨(F.r' hx nx).trans p1, hD, by rw [f5, pastA_len p4], by rw [pastA_len p4]; split <;> omega, fun k hk => ?_⟩, ⟨(F.r' hx nx).trans s1, by rw [f3]; exact s2, fun q hq => ?_⟩, ?_, hT'⟩
  · rw [pastA_get p4 hk]
    rw [pastA_len p4] at hk
    have hk8 : k < 8 := by split at hk <;> omega
    have hcg : ∀ (q : Nat) (t : Nat → Int32), xPo g' q t → (∀ i, i < 391 → MiniP S ps.length k i = t i) → xPo g' q (fun i => S' 4 (391 * k + i)) := fun q t hq ht => hq.cong (fun i hi => by rw [e4 k i hk8 hi]; exact ht i hi)
    by_cases e8 : ps.length = 8
    · rw [if_pos e8] at hk ⊢
      by_cases e7 : k = 7
      · rw [if_pos e7]
        exact hcg b (S 1) hb (fun i hi => by unfold MiniP; rw [if_pos e8, if_pos e7])
      · rw [if_neg e7]
        have hm : ps.getD (k + 1) 0 ∈ ps := by rw [List.getD_eq_getElem?_getD, List.getElem?_eq_getElem (by omega)]; exact List.getElem_mem _
        refine hcg _ (fun i => S 4 (391 * (k + 1) + i)) (old _ _ (fun e => hN1 (by rw [← e]; exact List.mem_append.mpr (Or.inr hm))) (p5 (k + 1) (by omega))) (fun i hi => by unfold MiniP; rw [if_pos e8, if_neg e7])
    · rw [if_neg e8] at hk ⊢
      by_cases e7 : k = ps.length
      · rw [if_pos e7]
        exact hcg b (S 1) hb (fun i hi => by unfold MiniP; rw [if_neg e8, if_pos e7])
      · rw [if_neg e7]
        have hm : ps.getD k 0 ∈ ps := by rw [List.getD_eq_getElem?_getD, List.getElem?_eq_getElem (by omega)]; exact List.getElem_mem _
        refine hcg _ (fun i => S 4 (391 * k + i)) (old _ _ (fun e => hN1 (by rw [← e]; exact List.mem_append.mpr (Or.inr hm))) (p5 k (by omega))) (fun i hi => by unfold MiniP; rw [if_neg e8, if_neg e7])
  · rw [e3]
    exact old q _ (fun e => hN1 (by rw [← e, hq]; exact List.mem_append.mpr (Or.inl (by simp)))) (s3 q hq)
  · have hbp : b ≠ p := by omega
    have hbps : b ∉ ps := fun hm => by
      obtain ⟨k, hk, e⟩ := List.getElem_of_mem hm
      have := (p5 k hk).lt
      rw [List.getD_eq_getElem?_getD, List.getElem?_eq_getElem hk, Option.getD_some, e] at this
      omega
    have hbs : b ∉ sv.toList := fun hm => by
      cases sv with
      | none => simp at hm
      | some q =>
        have e : b = q := by simpa using hm
        have := (s3 q rfl).lt
        omega
    rw [List.nodup_cons, List.nodup_append]
    refine ⟨fun hm => ?_, hN3, pastA_nodup hN4 hbps, fun a ha c hc e => ?_⟩
    · rcases List.mem_append.mp hm with q | q
      · exact hN1 (List.mem_append.mpr (Or.inl q))
      · rcases pastA_sub q with q | q
        · exact hbp q.symm
        · exact hN1 (List.mem_append.mpr (Or.inr q))
    · rcases pastA_sub hc with q | q
      · rw [q] at e; rw [e] at ha; exact hbs ha
      · exact hN5 a ha c q e
