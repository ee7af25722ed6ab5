/-! CLASS 32: a policy grown -/
set_option maxRecDepth 100000
section W32
variable {s s' : Nat → Int32} {n rr ww : Nat}
theorem isN_w {j b b' : Nat} (h : isN s j b) (hb : b ≤ b') : isN s j b' := ⟨h.1, Nat.lt_of_lt_of_le h.2 hb⟩
theorem isN_nI {j v b : Nat} (h : s j = nI v) (hv : v < b) (hb : b < 2 ^ 31) : isN s j b := by
  refine ⟨?_, ?_⟩
  · unfold aN; rw [h, nI_c (by omega)]
  · unfold aN; rw [h, nI_c (by omega)]; exact hv
/-- depths, where the parents are the same -/
theorem rdep_c3 {m : Nat} (h : ∀ r, r < m → s' (28 + 20 * r) = s (28 + 20 * r)) : ∀ r, r < m → rdep s' r = rdep s r := by
  intro r
  induction r using Nat.strongRecOn with
  | _ r ih =>
    intro hr
    have e := h r hr
    have e2 := parN_c e
    conv => lhs; rw [rdep]
    conv => rhs; rw [rdep]
    by_cases hc : 0 ≤ s (28 + 20 * r) ∧ parN s r < r
    · rw [dif_pos (by rw [e, e2]; exact hc), dif_pos hc, e2, ih _ hc.2 (by omega)]
    · rw [dif_neg (by rw [e, e2]; exact hc), dif_neg hc]
theorem WFru_w {n' r : Nat} (h : WFru s n r) (hn : n ≤ n') : WFru s n' r := ⟨isN_w h.1 hn, h.2⟩
theorem WFwk_w {n' w : Nat} (h : WFwk s n w) (hn : n ≤ n') : WFwk s n' w := ⟨isN_w h.1 hn, h.2⟩
theorem WFwk_c {w w' : Nat} (h : ∀ c, c < 4 → s' (343 + 4 * w' + c) = s (343 + 4 * w + c)) (q : WFwk s n w) : WFwk s' n w' := by
  obtain ⟨b1, b2, b3, b4⟩ := q
  have e0 := h 0 (by omega)
  have e1 := h 1 (by omega)
  have e2 := h 2 (by omega)
  have e3 := h 3 (by omega)
  unfold WFwk isN aN at *
  rw [show 343 + 4 * w' = 343 + 4 * w' + 0 from rfl, e0, e1, e2, e3]
  exact ⟨b1, b2, b3, b4⟩
/-- one more scope -/
theorem WFS.addC (w : WFS s n rr ww) (hn : n < 10) {k : Nat} (hk : k < n) (hs : ∀ j, j < 391 → s' j = if j = 0 then nI (n + 1) else if j = 3 + 2 * n then nI k else if j = 4 + 2 * n then -1 else s j) : WFS s' (n + 1) rr ww ∧ ∀ r, r < 16 → rdep s' r = rdep s r := by
  have r16 := w.r16
  have w12 := w.w12
  have hh : ∀ j, j < 391 → j ≠ 0 → j ≠ 3 + 2 * n → j ≠ 4 + 2 * n → s' j = s j := fun j h1 h2 h3 h4 => by rw [hs j h1, if_neg h2, if_neg h3, if_neg h4]
  have hd : ∀ r, r < 16 → rdep s' r = rdep s r := rdep_c3 (fun r hr => hh _ (by omega) (by omega) (by omega) (by omega))
  have e3 : s' (3 + 2 * n) = nI k := by rw [hs _ (by omega), if_neg (by omega), if_pos rfl]
  have e4 : s' (4 + 2 * n) = -1 := by rw [hs _ (by omega), if_neg (by omega), if_neg (by omega), if_pos rfl]
  have n0 := w.n0
  refine ⟨⟨by omega, by omega, r16, w12, by rw [hs 0 (by omega), if_pos rfl], by rw [hh 1 (by omega) (by omega) (by omega) (by omega)]; exact w.s1, by rw [hh 2 (by omega) (by omega) (by omega) (by omega)]; exact w.s2, ⟨?_, fun i h0 hi => ?_⟩, ⟨?_, fun i hi => ?_⟩, fun r hr => ?_, fun i hi => ?_⟩, hd⟩
  · rw [hh 3 (by omega) (by omega) (by omega) (by omega)]; exact w.o.1
  · by_cases e : i = n
    · subst e
      have eo : ou s' i = k := by unfold ou; rw [e3, nI_c (by omega)]
      rw [eo]
      exact ⟨e3, hk⟩
    · have ee := hh (3 + 2 * i) (by omega) (by omega) (by omega) (by omega)
      rw [ee, ou_c ee]
      exact w.o.2 i h0 (by omega)
  · rw [hh 4 (by omega) (by omega) (by omega) (by omega)]; exact w.e4
  · by_cases e : i = n
    · subst e
      exact Or.inl e4
    · rw [hh (4 + 2 * i) (by omega) (by omega) (by omega) (by omega)]
      exact w.e.2 i (by omega)
  · exact WFru_w (WFru_c2 (fun c hc => hh _ (by omega) (by omega) (by omega) (by omega)) (hd r (by omega)) (w.ru hr)) (by omega)
  · exact WFwk_w (WFwk_c (fun c hc => hh _ (by omega) (by omega) (by omega) (by omega)) (w.wk hi)) (by omega)
/-- another default -/
theorem WFS.setO (w : WFS s n rr ww) {k : Nat} (hk : k < n) {v : Int32} (hv : v = -1 ∨ ∃ e, e < 3 ∧ v = nI e) (hv0 : k = 0 → ¬ v < 0) (hs : ∀ j, j < 391 → s' j = if j = 4 + 2 * k then v else s j) : WFS s' n rr ww ∧ ∀ r, r < 16 → rdep s' r = rdep s r := by
  have r16 := w.r16
  have w12 := w.w12
  have n10 := w.n10
  have hh : ∀ j, j < 391 → j ≠ 4 + 2 * k → s' j = s j := fun j h1 h2 => by rw [hs j h1, if_neg h2]
  have hd : ∀ r, r < 16 → rdep s' r = rdep s r := rdep_c3 (fun r hr => hh _ (by omega) (by omega))
  have e4 : s' (4 + 2 * k) = v := by rw [hs _ (by omega), if_pos rfl]
  refine ⟨⟨w.n0, n10, r16, w12, by rw [hh 0 (by omega) (by omega)]; exact w.s0, by rw [hh 1 (by omega) (by omega)]; exact w.s1, by rw [hh 2 (by omega) (by omega)]; exact w.s2, ⟨?_, fun i h0 hi => ?_⟩, ⟨?_, fun i hi => ?_⟩, fun r hr => ?_, fun i hi => ?_⟩, hd⟩
  · rw [hh 3 (by omega) (by omega)]; exact w.o.1
  · have ee := hh (3 + 2 * i) (by omega) (by omega)
    rw [ee, ou_c ee]
    exact w.o.2 i h0 hi
  · by_cases e : k = 0
    · subst e
      rw [show (4 : Nat) = 4 + 2 * 0 from rfl, e4]
      exact hv0 rfl
    · rw [hh 4 (by omega) (by omega)]; exact w.e4
  · by_cases e : i = k
    · subst e
      rw [e4]
      exact hv
    · rw [hh (4 + 2 * i) (by omega) (by omega)]
      exact w.e.2 i hi
  · exact WFru_c2 (fun c hc => hh _ (by omega) (by omega)) (hd r (by omega)) (w.ru hr)
  · exact WFwk_c (fun c hc => hh _ (by omega) (by omega)) (w.wk hi)
/-- one more rule -/
theorem WFS.addR (w : WFS s n rr ww) (hr : rr < 16) (h1 : s' 1 = nI (rr + 1)) (hs : ∀ j, j < 391 → j ≠ 1 → (j < 23 + 20 * rr ∨ 43 + 20 * rr ≤ j) → s' j = s j) (hn : WFru s' n rr) : WFS s' n (rr + 1) ww ∧ ∀ r, r < rr → rdep s' r = rdep s r := by
  have w12 := w.w12
  have n10 := w.n10
  have hd : ∀ r, r < rr → rdep s' r = rdep s r := rdep_c3 (fun r hr => hs _ (by omega) (by omega) (by omega))
  refine ⟨⟨w.n0, n10, by omega, w12, by rw [hs 0 (by omega) (by omega) (by omega)]; exact w.s0, h1, by rw [hs 2 (by omega) (by omega) (by omega)]; exact w.s2, ⟨?_, fun i h0 hi => ?_⟩, ⟨?_, fun i hi => ?_⟩, fun r hr => ?_, fun i hi => ?_⟩, hd⟩
  · rw [hs 3 (by omega) (by omega) (by omega)]; exact w.o.1
  · have ee := hs (3 + 2 * i) (by omega) (by omega) (by omega)
    rw [ee, ou_c ee]
    exact w.o.2 i h0 hi
  · rw [hs 4 (by omega) (by omega) (by omega)]; exact w.e4
  · rw [hs (4 + 2 * i) (by omega) (by omega) (by omega)]
    exact w.e.2 i hi
  · by_cases e : r = rr
    · subst e
      exact hn
    · exact WFru_c2 (fun c hc => hs _ (by omega) (by omega) (by omega)) (hd r (by omega)) (w.ru (by omega))
  · exact WFwk_c (fun c hc => hs _ (by omega) (by omega) (by omega)) (w.wk hi)
/-- other works -/
theorem WFS.setW (w : WFS s n rr ww) {ww' : Nat} (hw : ww' ≤ 12) (h2 : s' 2 = nI ww') (hs : ∀ j, j < 343 → j ≠ 2 → s' j = s j) (hn : ∀ i, i < ww' → WFwk s' n i) : WFS s' n rr ww' ∧ ∀ r, r < 16 → rdep s' r = rdep s r := by
  have r16 := w.r16
  have n10 := w.n10
  have hd : ∀ r, r < 16 → rdep s' r = rdep s r := rdep_c3 (fun r hr => hs _ (by omega) (by omega))
  refine ⟨⟨w.n0, n10, r16, hw, by rw [hs 0 (by omega) (by omega)]; exact w.s0, by rw [hs 1 (by omega) (by omega)]; exact w.s1, h2, ⟨?_, fun i h0 hi => ?_⟩, ⟨?_, fun i hi => ?_⟩, fun r hr => ?_, hn⟩, hd⟩
  · rw [hs 3 (by omega) (by omega)]; exact w.o.1
  · have ee := hs (3 + 2 * i) (by omega) (by omega)
    rw [ee, ou_c ee]
    exact w.o.2 i h0 hi
  · rw [hs 4 (by omega) (by omega)]; exact w.e4
  · rw [hs (4 + 2 * i) (by omega) (by omega)]
    exact w.e.2 i hi
  · exact WFru_c2 (fun c hc => hs _ (by omega) (by omega)) (hd r (by omega)) (w.ru hr)
end W32
section P32
variable {g g' : xG} {p N : Nat} {Z Z' : xAd} {s s' : Nat → Int32} {n rr ww r c : Nat}
theorem xRp.to (h : xRp g p Z s r) (hR : (aR Z').getD r 0 = (aR Z).getD r 0) (h1 : aTl Z' r = aTl Z r) (h2 : aTa Z' r = aTa Z r) (h3 : aT Z' r = aT Z r) (hs : ∀ c, c < 20 → s' (23 + 20 * r + c) = s (23 + 20 * r + c)) (hd : rdep s' r = rdep s r) (hl : aN s (23 + 20 * r + 7) < 5) : xRp g p Z' s' r := by
  obtain ⟨t1, t2, t3, t4⟩ := h
  unfold xRp
  rw [hR, h1, h2, h3]
  exact ⟨xRu_c2 hs hd hl t1, t2, t3, t4⟩
theorem xWk.to {w w' b : Nat} (h : ∀ c, c < 4 → s' (343 + 4 * w' + c) = s (343 + 4 * w + c)) (q : xWk g s w b) : xWk g s' w' b := by
  obtain ⟨a1, a2, a3, a4, a5, a6⟩ := q
  exact ⟨a1, a2, by rw [show 343 + 4 * w' = 343 + 4 * w' + 0 from rfl, h 0 (by omega)]; exact a3, by rw [h 1 (by omega)]; exact a4, by rw [h 2 (by omega)]; exact a5, by rw [h 3 (by omega)]; exact a6⟩
theorem xRp.fr1 {O : Nat → Prop} (h : xRp g p Z s r) (F : xFr O N g g') (h0 : ¬ O (1000 * p)) (h1 : ¬ O (1000 * p + 10 + r)) (h2 : ¬ O 2) : xRp g' p Z s r := by
  obtain ⟨t1, t2, t3, t4⟩ := h
  have hb : (aR Z).getD r 0 < xsz g := xlt (by have := t1.1; omega)
  have hta : xtag g (aTa Z r) = 108 := t1.2.2.2.2.2.2.2.2.1.2.2.2.2.1
  have hl : aTa Z r < xsz g := xlt (by rw [hta]; decide)
  refine ⟨t1.fr t4 F (by rw [t2]; exact h0) h1 h2, (F.own hb).trans t2, by rw [F.len hl]; exact t3, fun j hj => ?_⟩
  have ht := t1.2.2.2.2.2.2.2.2.2.1.2 j hj
  rw [F.own (xlt (by omega))]
  exact t4 j hj
theorem xPol.so' (h : xPol g p Z s n rr ww) {i : Nat} (hi : i < n) : xtag g ((aC Z).getD i 0) = 3 := (h.sc i hi).1
theorem xPol.lens (h : xPol g p Z s n rr ww) {O : Nat → Prop} (F : xFr O N g g') : 10 ≤ xlen g' (aL Z 1) ∧ 16 ≤ xlen g' (aL Z 3) ∧ 12 ≤ xlen g' (aL Z 5) := by
  have hz : ∀ {a : Nat}, xtag g a = 108 → a < xsz g := fun h => xlt (by rw [h]; decide)
  rw [F.len (hz h.l0.2.2.2.2.1), F.len (hz h.l1.2.2.2.2.1), F.len (hz h.l2.2.2.2.2.1)]
  exact ⟨h.c0, h.c1, h.c2⟩
theorem xPol.addC (h : xPol g p Z s n rr ww) (F : xFr (oEq (1000 * p + 1)) N g g') (al : xAL g' (1000 * p + 1) (aL Z 0) (aL Z 1) (aC Z ++ [c])) (hn : n < 10) {k : Nat} (hk : k < n)
    (c1 : xtag g' c = 3) (c2 : xown g' c = 1000 * p) (c3 : xi g' c 1 = nI n) (c4 : xr g' c 0 = some ((aC Z).getD k 0)) (c5 : xr g' c 2 = none) (hs : ∀ j, j < 391 → s' j = if j = 0 then nI (n + 1) else if j = 3 + 2 * n then nI k else if j = 4 + 2 * n then -1 else s j) : xPol g' p (Z.1, aC Z ++ [c], Z.2.2) s' (n + 1) rr ww := by
  obtain ⟨hW, hd⟩ := h.wf.addC hn hk hs
  have p0 := h.p0
  have r16 := h.wf.r16
  have w12 := h.wf.w12
  have hh : ∀ j, j < 391 → j ≠ 0 → j ≠ 3 + 2 * n → j ≠ 4 + 2 * n → s' j = s j := fun j h1 h2 h3 h4 => by rw [hs j h1, if_neg h2, if_neg h3, if_neg h4]
  have np : ¬ oEq (1000 * p + 1) (xown g p) := by rw [h.own]; unfold oEq; omega
  have hsc := h.sc.fr (o := 1000 * p) (fun i hi => h.so hi) F (by unfold oEq; omega)
  have e3 : ou s' n = k := by unfold ou; rw [hs _ (by omega), if_neg (by omega), if_pos rfl, nI_c (by omega)]
  have e4 : s' (4 + 2 * n) = -1 := by rw [hs _ (by omega), if_neg (by omega), if_neg (by omega), if_pos rfl]
  have lc := h.lc
  have hg : ∀ i, i < n → (aC Z ++ [c]).getD i 0 = (aC Z).getD i 0 := fun i hi => getD_app1 (by omega)
  have hgn : (aC Z ++ [c]).getD n 0 = c := by rw [← lc]; exact getD_app2
  refine ⟨p0, hW, ⟨?_, h.lr, h.lw⟩, (F.own h.lt).trans h.own, ⟨(F.tag h.lt).trans h.tag, (F.r' h.lt np).trans h.f0, (F.r' h.lt np).trans h.f1, (F.r' h.lt np).trans h.f2, al, h.l1.fr F (by unfold oEq; omega), h.l2.fr F (by unfold oEq; omega)⟩, h.lens F, ⟨fun i hi => ?_, fun i hi => ?_⟩, fun r hr => ?_, fun w hw => ?_⟩
  · show (aC Z ++ [c]).length = n + 1
    rw [List.length_append, lc]; rfl
  · show xtag g' ((aC Z ++ [c]).getD i 0) = 3 ∧ xi g' ((aC Z ++ [c]).getD i 0) 1 = nI i ∧ xr g' ((aC Z ++ [c]).getD i 0) 0 = (if i = 0 then none else some ((aC Z ++ [c]).getD (ou s' i) 0)) ∧ xr g' ((aC Z ++ [c]).getD i 0) 2 = effO g' (s' (4 + 2 * i))
    by_cases e : i = n
    · subst e
      have n0 := h.wf.n0
      rw [hgn, if_neg (by omega), e3, hg k hk, e4, effO_none]
      exact ⟨c1, c3, c4, c5⟩
    · have hi2 : i < n := by omega
      obtain ⟨a1, a2, a3, a4⟩ := hsc i hi2
      have ee := hh (3 + 2 * i) (by omega) (by omega) (by omega) (by omega)
      rw [hg i hi2, ou_c ee, hh (4 + 2 * i) (by omega) (by omega) (by omega) (by omega)]
      refine ⟨a1, a2, ?_, a4⟩
      rw [show xr g' ((aC Z).getD i 0) 0 = _ from a3]
      by_cases z : i = 0
      · rw [if_pos z, if_pos z]
      · rw [if_neg z, if_neg z, hg _ (by have := (h.wf.o.2 i (by omega) hi2).2; omega)]
  · show xown g' ((aC Z ++ [c]).getD i 0) = 1000 * p
    by_cases e : i = n
    · subst e
      rw [hgn]; exact c2
    · have hi2 : i < n := by omega
      rw [hg i hi2]
      have a1' : xtag g ((aC Z).getD i 0) = 3 := (h.sc i hi2).1
      rw [F.own (xlt (by rw [a1']; decide))]
      exact h.so hi2
  · exact ((h.rp hr).fr1 F (by unfold oEq; omega) (by unfold oEq; omega) (by unfold oEq; omega)).to rfl rfl rfl rfl (fun c hc => hh _ (by omega) (by omega) (by omega) (by omega)) (hd r (by omega)) (h.wf.ru hr).2.2.2.2.2.1.2
  · exact ((h.wk hw).fr F (by unfold oEq; omega)).to (fun c hc => hh _ (by omega) (by omega) (by omega) (by omega))
theorem xPol.addR (h : xPol g p Z s n rr ww) (F : xFr (oEq (1000 * p + 2)) N g g') (al : xAL g' (1000 * p + 2) (aL Z 2) (aL Z 3) (aR Z ++ [c])) (hr : rr < 16) {tl ta : Nat} (hc : xRu g' s' rr c (1000 * p + 10 + rr) tl ta [] ∧ xown g' c = 1000 * p ∧ 4 ≤ xlen g' ta)
    (h1 : s' 1 = nI (rr + 1)) (hs : ∀ j, j < 391 → j ≠ 1 → (j < 23 + 20 * rr ∨ 43 + 20 * rr ≤ j) → s' j = s j) (hn : WFru s' n rr) : xPol g' p (fun i => if i = 10 + 2 * rr then tl else if i = 11 + 2 * rr then ta else aL Z i, aC Z, aR Z ++ [c], aW Z, fun r => if r = rr then [] else aT Z r) s' n (rr + 1) ww := by
  obtain ⟨hW, hd⟩ := h.wf.addR hr h1 hs hn
  have p0 := h.p0
  have n10 := h.wf.n10
  have w12 := h.wf.w12
  have np : ¬ oEq (1000 * p + 2) (xown g p) := by rw [h.own]; unfold oEq; omega
  have hsc := h.sc.fr (o := 1000 * p) (fun i hi => h.so hi) F (by unfold oEq; omega)
  have lr := h.lr
  have hg : ∀ i, i < rr → (aR Z ++ [c]).getD i 0 = (aR Z).getD i 0 := fun i hi => getD_app1 (by omega)
  have hgn : (aR Z ++ [c]).getD rr 0 = c := by rw [← lr]; exact getD_app2
  have zL : ∀ i, i < 6 → aL ((fun i => if i = 10 + 2 * rr then tl else if i = 11 + 2 * rr then ta else aL Z i, aC Z, aR Z ++ [c], aW Z, fun r => if r = rr then [] else aT Z r) : xAd) i = aL Z i := fun i hi => by
    show (if i = 10 + 2 * rr then tl else if i = 11 + 2 * rr then ta else aL Z i) = aL Z i
    rw [if_neg (by omega), if_neg (by omega)]
  refine ⟨p0, hW, ⟨h.lc, ?_, h.lw⟩, (F.own h.lt).trans h.own, ?_, ?_, ⟨fun i hi => ?_, fun i hi => ?_⟩, fun r hr' => ?_, fun w hw => ?_⟩
  · show (aR Z ++ [c]).length = rr + 1
    rw [List.length_append, lr]; rfl
  · rw [zL 0 (by omega), zL 1 (by omega), zL 2 (by omega), zL 3 (by omega), zL 4 (by omega), zL 5 (by omega)]
    exact ⟨(F.tag h.lt).trans h.tag, (F.r' h.lt np).trans h.f0, (F.r' h.lt np).trans h.f1, (F.r' h.lt np).trans h.f2, h.l0.fr F (by unfold oEq; omega), al, h.l2.fr F (by unfold oEq; omega)⟩
  · rw [zL 1 (by omega), zL 3 (by omega), zL 5 (by omega)]
    exact h.lens F
  · obtain ⟨a1, a2, a3, a4⟩ := hsc i hi
    exact ⟨a1, a2, by rw [ou_c (hs (3 + 2 * i) (by omega) (by omega) (by omega))]; exact a3, by rw [hs (4 + 2 * i) (by omega) (by omega) (by omega)]; exact a4⟩
  · show xown g' ((aC Z).getD i 0) = 1000 * p
    rw [F.own (xlt (by rw [h.so' hi]; decide))]
    exact h.so hi
  · by_cases e : r = rr
    · subst e
      have e1 : aTl ((fun i => if i = 10 + 2 * r then tl else if i = 11 + 2 * r then ta else aL Z i, aC Z, aR Z ++ [c], aW Z, fun r' => if r' = r then [] else aT Z r') : xAd) r = tl := if_pos rfl
      have e2 : aTa ((fun i => if i = 10 + 2 * r then tl else if i = 11 + 2 * r then ta else aL Z i, aC Z, aR Z ++ [c], aW Z, fun r' => if r' = r then [] else aT Z r') : xAd) r = ta := by
        show (if 11 + 2 * r = 10 + 2 * r then tl else if 11 + 2 * r = 11 + 2 * r then ta else aL Z (11 + 2 * r)) = ta
        rw [if_neg (by omega), if_pos rfl]
      have e3 : aT ((fun i => if i = 10 + 2 * r then tl else if i = 11 + 2 * r then ta else aL Z i, aC Z, aR Z ++ [c], aW Z, fun r' => if r' = r then [] else aT Z r') : xAd) r = [] := if_pos rfl
      unfold xRp
      rw [e1, e2, e3]
      rw [show (aR ((fun i => if i = 10 + 2 * r then tl else if i = 11 + 2 * r then ta else aL Z i, aC Z, aR Z ++ [c], aW Z, fun r' => if r' = r then [] else aT Z r') : xAd)).getD r 0 = c from hgn]
      exact ⟨hc.1, hc.2.1, hc.2.2, fun j hj => absurd hj (Nat.not_lt_zero j)⟩
    · have hr2 : r < rr := by omega
      refine ((h.rp hr2).fr1 F (by unfold oEq; omega) (by unfold oEq; omega) (by unfold oEq; omega)).to (hg r hr2) ?_ ?_ ?_ (fun c hc => hs _ (by omega) (by omega) (by omega)) (hd r hr2) (h.wf.ru hr2).2.2.2.2.2.1.2
      · show (if 10 + 2 * r = 10 + 2 * rr then tl else if 10 + 2 * r = 11 + 2 * rr then ta else aL Z (10 + 2 * r)) = aL Z (10 + 2 * r)
        rw [if_neg (by omega), if_neg (by omega)]
      · show (if 11 + 2 * r = 10 + 2 * rr then tl else if 11 + 2 * r = 11 + 2 * rr then ta else aL Z (11 + 2 * r)) = aL Z (11 + 2 * r)
        rw [if_neg (by omega), if_neg (by omega)]
      · exact if_neg e
  · exact ((h.wk hw).fr F (by unfold oEq; omega)).to (fun c hc => hs _ (by omega) (by omega) (by omega))
/-- other works -/
theorem xPol.setW (h : xPol g p Z s n rr ww) (F : xFr (oEq (1000 * p + 3)) N g g') {ls : List Nat} (al : xAL g' (1000 * p + 3) (aL Z 4) (aL Z 5) ls) (hl : ls.length ≤ 12) (h2 : s' 2 = nI ls.length) (hs : ∀ j, j < 343 → j ≠ 2 → s' j = s j)
    (hn : ∀ i, i < ls.length → WFwk s' n i ∧ xWk g' s' i (ls.getD i 0)) : xPol g' p (Z.1, aC Z, aR Z, ls, Z.2.2.2.2) s' n rr ls.length := by
  obtain ⟨hW, hd⟩ := h.wf.setW hl h2 hs (fun i hi => (hn i hi).1)
  have p0 := h.p0
  have n10 := h.wf.n10
  have r16 := h.wf.r16
  have np : ¬ oEq (1000 * p + 3) (xown g p) := by rw [h.own]; unfold oEq; omega
  have hsc := h.sc.fr (o := 1000 * p) (fun i hi => h.so hi) F (by unfold oEq; omega)
  refine ⟨p0, hW, ⟨h.lc, h.lr, rfl⟩, (F.own h.lt).trans h.own, ⟨(F.tag h.lt).trans h.tag, (F.r' h.lt np).trans h.f0, (F.r' h.lt np).trans h.f1, (F.r' h.lt np).trans h.f2, h.l0.fr F (by unfold oEq; omega), h.l1.fr F (by unfold oEq; omega), al⟩, h.lens F, ⟨fun i hi => ?_, fun i hi => ?_⟩, fun r hr => ?_, fun w hw => (hn w hw).2⟩
  · obtain ⟨a1, a2, a3, a4⟩ := hsc i hi
    exact ⟨a1, a2, by rw [ou_c (hs (3 + 2 * i) (by omega) (by omega))]; exact a3, by rw [hs (4 + 2 * i) (by omega) (by omega)]; exact a4⟩
  · show xown g' ((aC Z).getD i 0) = 1000 * p
    rw [F.own (xlt (by rw [h.so' hi]; decide))]
    exact h.so hi
  · exact ((h.rp hr).fr1 F (by unfold oEq; omega) (by unfold oEq; omega) (by unfold oEq; omega)).to rfl rfl rfl rfl (fun c hc => hs _ (by omega) (by omega)) (hd r (by omega)) (h.wf.ru hr).2.2.2.2.2.1.2
/-- a scope's own effect, set -/
theorem xPol.setO (h : xPol g p Z s n rr ww) {k : Nat} (hk : k < n) {v : Int32} (hv : v = -1 ∨ ∃ e, e < 3 ∧ v = nI e) (hv0 : k = 0 → ¬ v < 0) (hs : ∀ j, j < 391 → s' j = if j = 4 + 2 * k then v else s j) : xPol (xsetR g ((aC Z).getD k 0) 2 (effO g v)) p Z s' n rr ww := by
  obtain ⟨hW, hd⟩ := h.wf.setO hk hv hv0 hs
  have p0 := h.p0
  have n10 := h.wf.n10
  have r16 := h.wf.r16
  have w12 := h.wf.w12
  have hh : ∀ j, j < 391 → j ≠ 4 + 2 * k → s' j = s j := fun j h1 h2 => by rw [hs j h1, if_neg h2]
  have e4 : s' (4 + 2 * k) = v := by rw [hs _ (by omega), if_pos rfl]
  have tc := h.so' hk
  have oc := h.so hk
  have F : xFr (oEq (1000 * p)) 0 g (xsetR g ((aC Z).getD k 0) 2 (effO g v)) := xFr.rf.sr (Or.inr oc)
  have ke : ∀ c, c ≠ (aC Z).getD k 0 → xc (xsetR g ((aC Z).getD k 0) 2 (effO g v)) c = xc g c := fun c hc => xc_setR hc
  have kp : xc (xsetR g ((aC Z).getD k 0) 2 (effO g v)) p = xc g p := ke p (fun e => by rw [← e, h.tag] at tc; cases tc)
  refine ⟨p0, hW, h.2.2.1, (xown_of kp).trans h.own, ⟨(xtag_of kp).trans h.tag, (xr_of kp 0).trans h.f0, (xr_of kp 1).trans h.f1, (xr_of kp 2).trans h.f2, h.l0.fr F (by unfold oEq; omega), h.l1.fr F (by unfold oEq; omega), h.l2.fr F (by unfold oEq; omega)⟩, h.lens F, ⟨fun i hi => ?_, fun i hi => ?_⟩, fun r hr => ?_, fun w hw => ?_⟩
  · obtain ⟨a1, a2, a3, a4⟩ := h.sc i hi
    rw [ou_c (hh (3 + 2 * i) (by omega) (by omega))]
    by_cases e : i = k
    · subst e
      refine ⟨by rw [xtag_setR]; exact a1, by rw [xi_setR]; exact a2, by rw [xr_setRK (by decide)]; exact a3, ?_⟩
      rw [e4, effO_fr F]
      exact xr_setRS (by rw [tc]; decide)
    · have ne : (aC Z).getD i 0 ≠ (aC Z).getD k 0 := fun q => by
        have x1 := a2
        have x2 := (h.sc k hk).2.1
        simp only at x1 x2
        rw [q, x2] at x1
        exact e ((nI_eq (a := k) (b := i) (by omega) (by omega)).mp x1).symm
      have kc := ke _ ne
      refine ⟨(xtag_of kc).trans a1, (xi_of kc 1).trans a2, (xr_of kc 0).trans a3, ?_⟩
      rw [hh (4 + 2 * i) (by omega) (by omega), effO_fr F]
      exact (xr_of kc 2).trans a4
  · rw [xown_setR]; exact h.so hi
  · refine (show xRp _ p Z s r from ?_).to rfl rfl rfl rfl (fun c hc => hh _ (by omega) (by omega)) (hd r (by omega)) (h.wf.ru hr).2.2.2.2.2.1.2
    obtain ⟨t1, t2, t3, t4⟩ := h.rp hr
    have kr : xc (xsetR g ((aC Z).getD k 0) 2 (effO g v)) ((aR Z).getD r 0) = xc g ((aR Z).getD r 0) := ke _ (fun e => by have := t1.1; rw [e] at this; omega)
    obtain ⟨u1, u2, u3, u4, u5, u6, u7, u8, u9, u10, u11, u12, u13⟩ := t1
    have eT := xtag_of kr
    have e1 : rOf (xsetR g ((aC Z).getD k 0) 2 (effO g v)) ((aR Z).getD r 0) = rOf g ((aR Z).getD r 0) := by unfold rOf; rw [eT, xi_of kr]
    have e2 : rDep (xsetR g ((aC Z).getD k 0) 2 (effO g v)) ((aR Z).getD r 0) = rDep g ((aR Z).getD r 0) := by unfold rDep; rw [eT, xi_of kr]
    have e3 : rEff (xsetR g ((aC Z).getD k 0) 2 (effO g v)) ((aR Z).getD r 0) = rEff g ((aR Z).getD r 0) := by unfold rEff; rw [eT, xr_of kr]
    refine ⟨⟨by rw [eT]; exact u1, (xi_of kr 0).trans u2, (xi_of kr 1).trans u3, (xi_of kr 2).trans u4, (xi_of kr 3).trans u5, (xi_of kr 4).trans u6, (xi_of kr 5).trans u7, (xr_of kr 6).trans u8, u9.fr F (by unfold oEq; omega), u10.fr t4 F (by unfold oEq; omega), e1.trans u11, e2.trans u12, by rw [e3, effO_fr F]; exact u13⟩, (xown_of kr).trans t2, by rw [xlen_setR]; exact t3, fun j hj => by rw [xown_setR]; exact t4 j hj⟩
  · exact ((h.wk hw).fr F (by unfold oEq; omega)).to (fun c hc => hh _ (by omega) (by omega))
end P32
