/-! CLASS 14: a policy, made and copied -/
set_option maxRecDepth 100000
theorem getD_app1 {ls : List Nat} {c i : Nat} (h : i < ls.length) : (ls ++ [c]).getD i 0 = ls.getD i 0 := by
  rw [List.getD_eq_getElem?_getD, List.getD_eq_getElem?_getD, List.getElem?_append_left h]
theorem getD_app2 {ls : List Nat} {c : Nat} : (ls ++ [c]).getD ls.length 0 = c := by simp
/-- a policy in the making: q, its lists from b0 on; its scopes, rules, works so far -/
def xCp (g : xG) (q b0 : Nat) (s : Nat → Int32) (T : Nat → List Nat) (C R W : List Nat) : Prop := xown g q = 1000 * q ∧ xPl g q (1000 * q + 1) (1000 * q + 2) (1000 * q + 3) b0 (b0 + 2) (b0 + 4) (b0 + 1) (b0 + 3) (b0 + 5) C R W ∧ (10 ≤ xlen g (b0 + 1) ∧ 16 ≤ xlen g (b0 + 3) ∧ 12 ≤ xlen g (b0 + 5)) ∧
  (xSc g s C.length (fun i => C.getD i 0) ∧ ∀ i, i < C.length → xown g (C.getD i 0) = 1000 * q) ∧ ∀ r, r < R.length → xRu g s r (R.getD r 0) (1000 * q + 10 + r) (R.getD r 0 + 1) (R.getD r 0 + 2) (T r) ∧ xown g (R.getD r 0) = 1000 * q ∧ 4 ≤ xlen g (R.getD r 0 + 2) ∧ ∀ j, j < (T r).length → xown g ((T r).getD j 0) = 2
section C14
variable {g g' : xG} {q b0 N c n : Nat} {s : Nat → Int32} {T : Nat → List Nat} {C R W : List Nat} {O : Nat → Prop}
theorem xCp.ru_fr {r : Nat} (h : xRu g s r (R.getD r 0) (1000 * q + 10 + r) (R.getD r 0 + 1) (R.getD r 0 + 2) (T r) ∧ xown g (R.getD r 0) = 1000 * q ∧ 4 ≤ xlen g (R.getD r 0 + 2) ∧ ∀ j, j < (T r).length → xown g ((T r).getD j 0) = 2) (F : xFr O N g g') (h0 : ¬ O (1000 * q)) (h1 : ¬ O (1000 * q + 10 + r)) (h2 : ¬ O 2) :
    xRu g' s r (R.getD r 0) (1000 * q + 10 + r) (R.getD r 0 + 1) (R.getD r 0 + 2) (T r) ∧ xown g' (R.getD r 0) = 1000 * q ∧ 4 ≤ xlen g' (R.getD r 0 + 2) ∧ ∀ j, j < (T r).length → xown g' ((T r).getD j 0) = 2 := by
  obtain ⟨t1, t2, t3, t4⟩ := h
  have hb : R.getD r 0 < xsz g := xlt (by have := t1.1; omega)
  have hta : xtag g (R.getD r 0 + 2) = 108 := t1.2.2.2.2.2.2.2.2.1.2.2.2.2.1
  have hl : R.getD r 0 + 2 < xsz g := xlt (by rw [hta]; decide)
  refine ⟨t1.fr t4 F (by rw [t2]; exact h0) h1 h2, (F.own hb).trans t2, by rw [F.len hl]; exact t3, fun j hj => ?_⟩
  have ht := t1.2.2.2.2.2.2.2.2.2.1.2 j hj
  rw [F.own (xlt (by omega))]
  exact t4 j hj
theorem xCp.lens (h : xCp g q b0 s T C R W) (F : xFr O N g g') : 10 ≤ xlen g' (b0 + 1) ∧ 16 ≤ xlen g' (b0 + 3) ∧ 12 ≤ xlen g' (b0 + 5) := by
  have hz : ∀ {a : Nat}, xtag g a = 108 → a < xsz g := fun h => xlt (by rw [h]; decide)
  obtain ⟨-, ⟨-, -, -, -, l0, l1, l2⟩, ⟨c0, c1, c2⟩, -⟩ := h
  rw [F.len (hz l0.2.2.2.2.1), F.len (hz l1.2.2.2.2.1), F.len (hz l2.2.2.2.2.1)]
  exact ⟨c0, c1, c2⟩
theorem xCp.stepC (h : xCp g q b0 s T C R W) (hq : 0 < q) (F : xFr (oEq (1000 * q + 1)) N g g') (al : xAL g' (1000 * q + 1) b0 (b0 + 1) (C ++ [c])) (hR : R = []) (hW : WFo s n) (hn : C.length < n)
    (c1 : xtag g' c = 3) (c2 : xown g' c = 1000 * q) (c3 : xi g' c 1 = nI C.length) (c4 : xr g' c 0 = if C.length = 0 then none else some (C.getD (ou s C.length) 0)) (c5 : xr g' c 2 = effO g (s (4 + 2 * C.length))) : xCp g' q b0 s T (C ++ [c]) R W := by
  have hl := h.lens F
  obtain ⟨h1, ⟨p1, p2, p3, p4, l0, l1, l2⟩, -, ⟨sc, so⟩, ru⟩ := h
  have hlt : q < xsz g := xlt (by rw [p1]; decide)
  have n0 : ¬ oEq (1000 * q + 1) (xown g q) := by rw [h1]; unfold oEq; omega
  have hs := sc.fr so F (by unfold oEq; omega)
  refine ⟨(F.own hlt).trans h1, ⟨(F.tag hlt).trans p1, (F.r' hlt n0).trans p2, (F.r' hlt n0).trans p3, (F.r' hlt n0).trans p4, al, l1.fr F (by unfold oEq; omega), l2.fr F (by unfold oEq; omega)⟩, hl, ⟨fun i hi => ?_, fun i hi => ?_⟩, fun r hr => by rw [hR] at hr; exact absurd hr (Nat.not_lt_zero r)⟩
  · rw [List.length_append, List.length_singleton] at hi
    show xtag g' ((C ++ [c]).getD i 0) = 3 ∧ xi g' ((C ++ [c]).getD i 0) 1 = nI i ∧ xr g' ((C ++ [c]).getD i 0) 0 = (if i = 0 then none else some ((C ++ [c]).getD (ou s i) 0)) ∧ xr g' ((C ++ [c]).getD i 0) 2 = effO g' (s (4 + 2 * i))
    have ho : 0 < i → ou s i < i := fun h0 => (hW.2 i h0 (by omega)).2
    by_cases e : i = C.length
    · subst e
      rw [getD_app2, effO_fr F]
      refine ⟨c1, c3, ?_, c5⟩
      rw [c4]
      by_cases z : C.length = 0
      · rw [if_pos z, if_pos z]
      · rw [if_neg z, if_neg z, getD_app1 (ho (by omega))]
    · have hi2 : i < C.length := by omega
      obtain ⟨a1, a2, a3, a4⟩ := hs i hi2
      rw [getD_app1 hi2]
      refine ⟨a1, a2, ?_, a4⟩
      rw [show xr g' (C.getD i 0) 0 = _ from a3]
      by_cases z : i = 0
      · rw [if_pos z, if_pos z]
      · rw [if_neg z, if_neg z, getD_app1 (by have := ho (by omega); omega)]
  · rw [List.length_append, List.length_singleton] at hi
    by_cases e : i = C.length
    · subst e
      rw [getD_app2]
      exact c2
    · have hi2 : i < C.length := by omega
      rw [getD_app1 hi2, F.own (xlt (by have := (sc i hi2).1; rw [show (fun i => C.getD i 0) i = C.getD i 0 from rfl] at this; rw [this]; decide))]
      exact so i hi2
theorem xCp.stepR (h : xCp g q b0 s T C R W) (hq : 0 < q) (F : xFr (fun o => o = 1000 * q + 10 + R.length ∨ o = 1000 * q + 2) N g g') (al : xAL g' (1000 * q + 2) (b0 + 2) (b0 + 3) (R ++ [c])) (hl16 : R.length < 16)
    (hc : xRu g' s R.length c (1000 * q + 10 + R.length) (c + 1) (c + 2) (T R.length) ∧ xown g' c = 1000 * q ∧ 4 ≤ xlen g' (c + 2) ∧ ∀ j, j < (T R.length).length → xown g' ((T R.length).getD j 0) = 2) : xCp g' q b0 s T C (R ++ [c]) W := by
  have hl := h.lens F
  obtain ⟨h1, ⟨p1, p2, p3, p4, l0, l1, l2⟩, -, ⟨sc, so⟩, ru⟩ := h
  have hlt : q < xsz g := xlt (by rw [p1]; decide)
  have n0 : ¬ (xown g q = 1000 * q + 10 + R.length ∨ xown g q = 1000 * q + 2) := by rw [h1]; omega
  refine ⟨(F.own hlt).trans h1, ⟨(F.tag hlt).trans p1, (F.r' hlt n0).trans p2, (F.r' hlt n0).trans p3, (F.r' hlt n0).trans p4, l0.fr F (by omega), al, l2.fr F (by omega)⟩, hl, ⟨sc.fr so F (by omega), fun i hi => ?_⟩, fun r hr => ?_⟩
  · rw [F.own (xlt (by have := (sc i hi).1; rw [show (fun i => C.getD i 0) i = C.getD i 0 from rfl] at this; rw [this]; decide))]
    exact so i hi
  · rw [List.length_append, List.length_singleton] at hr
    by_cases e : r = R.length
    · subst e
      rw [getD_app2]
      exact hc
    · have hr2 : r < R.length := by omega
      have hx := xCp.ru_fr (ru r hr2) F (by omega) (by omega) (by omega)
      rw [getD_app1 hr2]
      exact hx
theorem xCp.stepW (h : xCp g q b0 s T C R W) (hq : 0 < q) (F : xFr (oEq (1000 * q + 3)) N g g') (al : xAL g' (1000 * q + 3) (b0 + 4) (b0 + 5) (W ++ [c])) : xCp g' q b0 s T C R (W ++ [c]) := by
  have hl := h.lens F
  obtain ⟨h1, ⟨p1, p2, p3, p4, l0, l1, l2⟩, -, ⟨sc, so⟩, ru⟩ := h
  have hlt : q < xsz g := xlt (by rw [p1]; decide)
  have n0 : ¬ oEq (1000 * q + 3) (xown g q) := by rw [h1]; unfold oEq; omega
  refine ⟨(F.own hlt).trans h1, ⟨(F.tag hlt).trans p1, (F.r' hlt n0).trans p2, (F.r' hlt n0).trans p3, (F.r' hlt n0).trans p4, l0.fr F (by unfold oEq; omega), l1.fr F (by unfold oEq; omega), al⟩, hl, ⟨sc.fr so F (by unfold oEq; omega), fun i hi => ?_⟩, fun r hr => xCp.ru_fr (ru r hr) F (by unfold oEq; omega) (by unfold oEq; omega) (by unfold oEq; omega)⟩
  rw [F.own (xlt (by have := (sc i hi).1; rw [show (fun i => C.getD i 0) i = C.getD i 0 from rfl] at this; rw [this]; decide))]
  exact so i hi
/-- its addresses -/
def mkZ (b0 : Nat) (C R W : List Nat) (T : Nat → List Nat) : xAd := (fun i => if i < 6 then b0 + i else if i % 2 = 0 then R.getD ((i - 10) / 2) 0 + 1 else R.getD ((i - 11) / 2) 0 + 2, C, R, W, T)
theorem xCp.pol {rr ww : Nat} (h : xCp g q b0 s T C R W) (hq : 0 < q) (hwf : WFS s n rr ww) (hC : C.length = n) (hR : R.length = rr) (hW : W.length = ww) (hw : ∀ w, w < ww → xWk g s w (W.getD w 0)) : xPol g q (mkZ b0 C R W T) s n rr ww := by
  obtain ⟨h1, p, l, sc, ru⟩ := h
  refine ⟨hq, hwf, ⟨hC, hR, hW⟩, h1, p, l, ⟨by rw [← hC]; exact sc.1, fun i hi => sc.2 i (by rw [hC]; exact hi)⟩, fun r hr => ?_, hw⟩
  have x := ru r (by rw [hR]; exact hr)
  have e1 : aTl (mkZ b0 C R W T) r = R.getD r 0 + 1 := by
    show (if 10 + 2 * r < 6 then _ else if (10 + 2 * r) % 2 = 0 then R.getD ((10 + 2 * r - 10) / 2) 0 + 1 else _) = _
    rw [if_neg (by omega), if_pos (by omega), show (10 + 2 * r - 10) / 2 = r from by omega]
  have e2 : aTa (mkZ b0 C R W T) r = R.getD r 0 + 2 := by
    show (if 11 + 2 * r < 6 then _ else if (11 + 2 * r) % 2 = 0 then _ else R.getD ((11 + 2 * r - 11) / 2) 0 + 2) = _
    rw [if_neg (by omega), if_neg (by omega), show (11 + 2 * r - 11) / 2 = r from by omega]
  unfold xRp
  rw [e1, e2]
  exact x
end C14
/-- the three lists, made -/
def xPI (g : xG) (q : Nat) : xG := xsetR (xLN (xsetR (xLN (xsetR (xLN g (1000 * q + 1) 10) q 0 (some (xsz g))) (1000 * q + 2) 16) q 1 (some (xsz g + 2))) (1000 * q + 3) 12) q 2 (some (xsz g + 4))
section I14
variable {g g0 : xG} {q N : Nat} {s : Nat → Int32} {T : Nat → List Nat} {O : Nat → Prop}
theorem xPI_c {c : Nat} (h : c < xsz g) (hc : c ≠ q) : xc (xPI g q) c = xc g c := by
  unfold xPI
  rw [xc_setR hc, xLN_c (by show c < xsz g + 2 + 2; omega), xc_setR hc, xLN_c (by show c < xsz g + 2; omega), xc_setR hc, xLN_c h]
theorem xPI.fr (h : xFr O N g0 g) (hq : q < xsz g) (ho : xsz g0 ≤ q ∨ O (xown g q)) : xFr O (N + 53) g0 (xPI g q) := by
  have h1 : xFr O (N + (10 + 5)) g0 (xLN g (1000 * q + 1) 10) := xLN.fr h
  have e1 : xown (xLN g (1000 * q + 1) 10) q = xown g q := xown_of (xLN_c hq)
  have h2 := h1.sr (a := q) (j := 0) (v := some (xsz g)) (by rw [e1]; exact ho)
  have h3 := xLN.fr (o := 1000 * q + 2) (n := 16) h2
  have e2 : xown (xLN (xsetR (xLN g (1000 * q + 1) 10) q 0 (some (xsz g))) (1000 * q + 2) 16) q = xown g q := by rw [xown_of (xLN_c (by show q < xsz g + 2; omega)), xown_setR]; exact e1
  have h4 := h3.sr (a := q) (j := 1) (v := some (xsz g + 2)) (by rw [e2]; exact ho)
  have h5 := xLN.fr (o := 1000 * q + 3) (n := 12) h4
  exact (h5.sr (a := q) (j := 2) (v := some (xsz g + 4)) (by rw [xown_of (xLN_c (by show q < xsz g + 2 + 2; omega)), xown_setR, e2]; exact ho)).sub (fun _ h => h) (by omega)
theorem xPI_cp (ht : xtag g q = 2) (ho : xown g q = 1000 * q) (h0 : 0 < q) : xCp (xPI g q) q (xsz g) s T [] [] [] := by
  have hq : q < xsz g := xlt (by rw [ht]; decide)
  have n0 : xsz g ≠ q := by omega
  have f1 := xLN_c (g := g) (o := 1000 * q + 1) (n := 10) hq
  have t1 : xtag (xLN g (1000 * q + 1) 10) q = 2 := (xtag_of f1).trans ht
  have f2 := xLN_c (g := xsetR (xLN g (1000 * q + 1) 10) q 0 (some (xsz g))) (o := 1000 * q + 2) (n := 16) (c := q) (by show q < xsz g + 2; omega)
  have t2 : xtag (xLN (xsetR (xLN g (1000 * q + 1) 10) q 0 (some (xsz g))) (1000 * q + 2) 16) q = 2 := by rw [xtag_of f2, xtag_setR]; exact t1
  have f3 := xLN_c (g := xsetR (xLN (xsetR (xLN g (1000 * q + 1) 10) q 0 (some (xsz g))) (1000 * q + 2) 16) q 1 (some (xsz g + 2))) (o := 1000 * q + 3) (n := 12) (c := q) (by show q < xsz g + 2 + 2; omega)
  have t3 : xtag (xLN (xsetR (xLN (xsetR (xLN g (1000 * q + 1) 10) q 0 (some (xsz g))) (1000 * q + 2) 16) q 1 (some (xsz g + 2))) (1000 * q + 3) 12) q = 2 := by rw [xtag_of f3, xtag_setR]; exact t2
  have a1 := xLN_al (g := g) (o := 1000 * q + 1) (n := 10) (by decide)
  have a2 := xLN_al (g := xsetR (xLN g (1000 * q + 1) 10) q 0 (some (xsz g))) (o := 1000 * q + 2) (n := 16) (by decide)
  have a3 := xLN_al (g := xsetR (xLN (xsetR (xLN g (1000 * q + 1) 10) q 0 (some (xsz g))) (1000 * q + 2) 16) q 1 (some (xsz g + 2))) (o := 1000 * q + 3) (n := 12) (by decide)
  -- frames from each stage on
  have F3 : xFr (oEq (1000 * q)) 0 (xLN (xsetR (xLN (xsetR (xLN g (1000 * q + 1) 10) q 0 (some (xsz g))) (1000 * q + 2) 16) q 1 (some (xsz g + 2))) (1000 * q + 3) 12) (xPI g q) := by
    refine xFr.rf.sr (Or.inr ?_)
    show xown _ q = 1000 * q
    rw [xown_of f3, xown_setR, xown_of f2, xown_setR, xown_of f1]
    exact ho
  have F2 : xFr (oEq (1000 * q)) 17 (xLN (xsetR (xLN g (1000 * q + 1) 10) q 0 (some (xsz g))) (1000 * q + 2) 16) (xPI g q) := by
    have z : xFr (oEq (1000 * q)) 0 (xLN (xsetR (xLN g (1000 * q + 1) 10) q 0 (some (xsz g))) (1000 * q + 2) 16) (xsetR (xLN (xsetR (xLN g (1000 * q + 1) 10) q 0 (some (xsz g))) (1000 * q + 2) 16) q 1 (some (xsz g + 2))) := by
      refine xFr.rf.sr (Or.inr ?_)
      show xown _ q = 1000 * q
      rw [xown_of f2, xown_setR, xown_of f1]
      exact ho
    exact ((xLN.fr (o := 1000 * q + 3) (n := 12) z).tr F3).sub (fun _ h => h) (by omega)
  have F1 : xFr (oEq (1000 * q)) 38 (xLN g (1000 * q + 1) 10) (xPI g q) := by
    have z : xFr (oEq (1000 * q)) 0 (xLN g (1000 * q + 1) 10) (xsetR (xLN g (1000 * q + 1) 10) q 0 (some (xsz g))) := by
      refine xFr.rf.sr (Or.inr ?_)
      show xown _ q = 1000 * q
      rw [xown_of f1]
      exact ho
    exact ((xLN.fr (o := 1000 * q + 2) (n := 16) z).tr F2).sub (fun _ h => h) (by omega)
  have L1 := a1.1.fr F1 (by unfold oEq; omega)
  have L2 := a2.1.fr F2 (by unfold oEq; omega)
  have L3 := a3.1.fr F3 (by unfold oEq; omega)
  have hz : ∀ {g : xG} {a : Nat}, xtag g a = 108 → a < xsz g := fun h => xlt (by rw [h]; decide)
  have hq2 : q < xsz (xLN (xsetR (xLN (xsetR (xLN g (1000 * q + 1) 10) q 0 (some (xsz g))) (1000 * q + 2) 16) q 1 (some (xsz g + 2))) (1000 * q + 3) 12) := xlt (by rw [t3]; decide)
  refine ⟨(F3.own hq2).trans ?_, ⟨(F3.tag hq2).trans t3, ?_, ?_, ?_, L1, L2, L3⟩, ⟨?_, ?_, ?_⟩, ⟨fun i hi => absurd hi (Nat.not_lt_zero i), fun i hi => absurd hi (Nat.not_lt_zero i)⟩, fun r hr => absurd hr (Nat.not_lt_zero r)⟩
  · rw [xown_of f3, xown_setR, xown_of f2, xown_setR, xown_of f1]; exact ho
  · unfold xPI
    rw [xr_setRK (by decide), xr_of f3, xr_setRK (by decide), xr_of f2, xr_setRS (by rw [t1]; decide)]
  · unfold xPI
    rw [xr_setRK (by decide), xr_of f3, xr_setRS (by rw [t2]; decide)]
  · unfold xPI
    rw [xr_setRS (by rw [t3]; decide)]
  · rw [F1.len (hz a1.1.2.2.2.2.1), a1.2]; exact Nat.le_refl _
  · have e := a2.2
    have l := F2.len (hz a2.1.2.2.2.2.1)
    rw [e] at l
    exact Nat.le_of_eq l.symm
  · have e := a3.2
    have l := F3.len (hz a3.1.2.2.2.2.1)
    rw [e] at l
    exact Nat.le_of_eq l.symm
end I14
