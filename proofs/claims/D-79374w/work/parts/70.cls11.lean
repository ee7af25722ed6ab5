/-! CLASS 11: a policy's whole picture, and its frame -/
set_option maxRecDepth 100000
/-- the rule r's ints are well laid -/
def WFru (s : Nat → Int32) (n r : Nat) : Prop := isN s (23 + 20 * r + 1) n ∧ isN s (23 + 20 * r + 2) 10 ∧ isN s (23 + 20 * r + 3) 1000 ∧ isN s (23 + 20 * r + 4) 1000 ∧ isN s (23 + 20 * r + 6) 1001 ∧ isN s (23 + 20 * r + 7) 5 ∧ rdep s r ≤ 4 ∧
  ((s (23 + 20 * r + 5) = -1 ∧ isN s (23 + 20 * r + 0) 3) ∨ (isN s (23 + 20 * r + 5) r ∧ s (23 + 20 * r + 0) = -1)) ∧ ∀ j, j < aN s (23 + 20 * r + 7) → isN s (23 + 20 * r + (8 + 3 * j)) 6 ∧ isN s (23 + 20 * r + (8 + 3 * j + 1)) 4 ∧ isN s (23 + 20 * r + (8 + 3 * j + 2)) 10
def WFwk (s : Nat → Int32) (n w : Nat) : Prop := isN s (343 + 4 * w) n ∧ isN s (343 + 4 * w + 1) 1000 ∧ isN s (343 + 4 * w + 2) 1000000 ∧ isN s (343 + 4 * w + 3) 3
/-- a policy's ints are well laid -/
def WFS (s : Nat → Int32) (n rr ww : Nat) : Prop := 0 < n ∧ n ≤ 10 ∧ rr ≤ 16 ∧ ww ≤ 12 ∧ s 0 = nI n ∧ s 1 = nI rr ∧ s 2 = nI ww ∧ WFo s n ∧ WFe s n ∧ (∀ r, r < rr → WFru s n r) ∧ ∀ w, w < ww → WFwk s n w
section W11
variable {s : Nat → Int32} {n rr ww : Nat}
theorem WFS.n0 (h : WFS s n rr ww) : 0 < n := h.1
theorem WFS.n10 (h : WFS s n rr ww) : n ≤ 10 := h.2.1
theorem WFS.r16 (h : WFS s n rr ww) : rr ≤ 16 := h.2.2.1
theorem WFS.w12 (h : WFS s n rr ww) : ww ≤ 12 := h.2.2.2.1
theorem WFS.s0 (h : WFS s n rr ww) : s 0 = nI n := h.2.2.2.2.1
theorem WFS.s1 (h : WFS s n rr ww) : s 1 = nI rr := h.2.2.2.2.2.1
theorem WFS.s2 (h : WFS s n rr ww) : s 2 = nI ww := h.2.2.2.2.2.2.1
theorem WFS.o (h : WFS s n rr ww) : WFo s n := h.2.2.2.2.2.2.2.1
theorem WFS.e (h : WFS s n rr ww) : WFe s n := h.2.2.2.2.2.2.2.2.1
theorem WFS.ru (h : WFS s n rr ww) {r : Nat} (hr : r < rr) : WFru s n r := h.2.2.2.2.2.2.2.2.2.1 r hr
theorem WFS.wk (h : WFS s n rr ww) {w : Nat} (hw : w < ww) : WFwk s n w := h.2.2.2.2.2.2.2.2.2.2 w hw
theorem WFS.e4 (h : WFS s n rr ww) : ¬ s 4 < 0 := h.e.1
theorem WFS.r (h : WFS s n rr ww) : WFr s n rr := fun r hr => by
  obtain ⟨a1, a2, a3, a4, a5, a6, a7, a8, a9⟩ := h.ru hr
  exact ⟨a1, a6, fun j hj => ⟨(a9 j hj).1, (a9 j hj).2.1⟩⟩
theorem WFS.p (h : WFS s n rr ww) : WFp s rr := fun r hr => by
  obtain ⟨a1, a2, a3, a4, a5, a6, a7, a8, a9⟩ := h.ru hr
  have e : 28 + 20 * r = 23 + 20 * r + 5 := by omega
  unfold parN
  rw [e]
  rcases a8 with q | q
  · exact Or.inl q.1
  · exact Or.inr q.1
theorem WFS.sc (h : WFS s n rr ww) : WFsc s n rr := fun r hr => by
  have a := (h.ru hr).1
  have e : 24 + 20 * r = 23 + 20 * r + 1 := by omega
  rw [e]
  exact a
theorem WFS.w (h : WFS s n rr ww) : WFw s n ww := fun w hw => (h.wk hw).1
end W11
/-- the work w's object -/
def xWk (g : xG) (s : Nat → Int32) (w b : Nat) : Prop := xtag g b = 14 ∧ xown g b = 2 ∧ xi g b 0 = s (343 + 4 * w) ∧ xi g b 1 = s (343 + 4 * w + 1) ∧ xi g b 2 = s (343 + 4 * w + 2) ∧ xr g b 3 = effO g (s (343 + 4 * w + 3))
/-- addresses: the lists; scopes, rules, works; each rule's tests -/
abbrev xAd : Type := (Nat → Nat) × List Nat × List Nat × List Nat × (Nat → List Nat)
def aL (Z : xAd) (i : Nat) : Nat := Z.1 i
def aC (Z : xAd) : List Nat := Z.2.1
def aR (Z : xAd) : List Nat := Z.2.2.1
def aW (Z : xAd) : List Nat := Z.2.2.2.1
def aT (Z : xAd) (r : Nat) : List Nat := Z.2.2.2.2 r
def aTl (Z : xAd) (r : Nat) : Nat := Z.1 (10 + 2 * r)
def aTa (Z : xAd) (r : Nat) : Nat := Z.1 (11 + 2 * r)
/-- the rule r of the policy p -/
def xRp (g : xG) (p : Nat) (Z : xAd) (s : Nat → Int32) (r : Nat) : Prop := xRu g s r ((aR Z).getD r 0) (1000 * p + 10 + r) (aTl Z r) (aTa Z r) (aT Z r) ∧ xown g ((aR Z).getD r 0) = 1000 * p ∧ 4 ≤ xlen g (aTa Z r) ∧ ∀ j, j < (aT Z r).length → xown g ((aT Z r).getD j 0) = 2
/-- the policy p: its ints are s -/
def xPol (g : xG) (p : Nat) (Z : xAd) (s : Nat → Int32) (n rr ww : Nat) : Prop := 0 < p ∧ WFS s n rr ww ∧ ((aC Z).length = n ∧ (aR Z).length = rr ∧ (aW Z).length = ww) ∧ xown g p = 1000 * p ∧
  xPl g p (1000 * p + 1) (1000 * p + 2) (1000 * p + 3) (aL Z 0) (aL Z 2) (aL Z 4) (aL Z 1) (aL Z 3) (aL Z 5) (aC Z) (aR Z) (aW Z) ∧ (10 ≤ xlen g (aL Z 1) ∧ 16 ≤ xlen g (aL Z 3) ∧ 12 ≤ xlen g (aL Z 5)) ∧
  (xSc g s n (fun i => (aC Z).getD i 0) ∧ ∀ i, i < n → xown g ((aC Z).getD i 0) = 1000 * p) ∧ (∀ r, r < rr → xRp g p Z s r) ∧ ∀ w, w < ww → xWk g s w ((aW Z).getD w 0)
section P11
variable {g g' : xG} {p N : Nat} {Z : xAd} {s : Nat → Int32} {n rr ww : Nat} {O : Nat → Prop}
theorem xPol.p0 (h : xPol g p Z s n rr ww) : 0 < p := h.1
theorem xPol.wf (h : xPol g p Z s n rr ww) : WFS s n rr ww := h.2.1
theorem xPol.lc (h : xPol g p Z s n rr ww) : (aC Z).length = n := h.2.2.1.1
theorem xPol.lr (h : xPol g p Z s n rr ww) : (aR Z).length = rr := h.2.2.1.2.1
theorem xPol.lw (h : xPol g p Z s n rr ww) : (aW Z).length = ww := h.2.2.1.2.2
theorem xPol.own (h : xPol g p Z s n rr ww) : xown g p = 1000 * p := h.2.2.2.1
theorem xPol.pl (h : xPol g p Z s n rr ww) : xPl g p (1000 * p + 1) (1000 * p + 2) (1000 * p + 3) (aL Z 0) (aL Z 2) (aL Z 4) (aL Z 1) (aL Z 3) (aL Z 5) (aC Z) (aR Z) (aW Z) := h.2.2.2.2.1
theorem xPol.tag (h : xPol g p Z s n rr ww) : xtag g p = 2 := h.pl.1
theorem xPol.f0 (h : xPol g p Z s n rr ww) : xr g p 0 = some (aL Z 0) := h.pl.2.1
theorem xPol.f1 (h : xPol g p Z s n rr ww) : xr g p 1 = some (aL Z 2) := h.pl.2.2.1
theorem xPol.f2 (h : xPol g p Z s n rr ww) : xr g p 2 = some (aL Z 4) := h.pl.2.2.2.1
theorem xPol.l0 (h : xPol g p Z s n rr ww) : xAL g (1000 * p + 1) (aL Z 0) (aL Z 1) (aC Z) := h.pl.2.2.2.2.1
theorem xPol.l1 (h : xPol g p Z s n rr ww) : xAL g (1000 * p + 2) (aL Z 2) (aL Z 3) (aR Z) := h.pl.2.2.2.2.2.1
theorem xPol.l2 (h : xPol g p Z s n rr ww) : xAL g (1000 * p + 3) (aL Z 4) (aL Z 5) (aW Z) := h.pl.2.2.2.2.2.2
theorem xPol.c0 (h : xPol g p Z s n rr ww) : 10 ≤ xlen g (aL Z 1) := h.2.2.2.2.2.1.1
theorem xPol.c1 (h : xPol g p Z s n rr ww) : 16 ≤ xlen g (aL Z 3) := h.2.2.2.2.2.1.2.1
theorem xPol.c2 (h : xPol g p Z s n rr ww) : 12 ≤ xlen g (aL Z 5) := h.2.2.2.2.2.1.2.2
theorem xPol.sc (h : xPol g p Z s n rr ww) : xSc g s n (fun i => (aC Z).getD i 0) := h.2.2.2.2.2.2.1.1
theorem xPol.so (h : xPol g p Z s n rr ww) {i : Nat} (hi : i < n) : xown g ((aC Z).getD i 0) = 1000 * p := h.2.2.2.2.2.2.1.2 i hi
theorem xPol.rp (h : xPol g p Z s n rr ww) {r : Nat} (hr : r < rr) : xRp g p Z s r := h.2.2.2.2.2.2.2.1 r hr
theorem xPol.ru (h : xPol g p Z s n rr ww) {r : Nat} (hr : r < rr) : xRu g s r ((aR Z).getD r 0) (1000 * p + 10 + r) (aTl Z r) (aTa Z r) (aT Z r) := (h.rp hr).1
theorem xPol.wk (h : xPol g p Z s n rr ww) {w : Nat} (hw : w < ww) : xWk g s w ((aW Z).getD w 0) := h.2.2.2.2.2.2.2.2 w hw
theorem xPol.lt (h : xPol g p Z s n rr ww) : p < xsz g := xlt (by rw [h.tag]; decide)
theorem effO_fr (F : xFr O N g g') (v : Int32) : effO g' v = effO g v := by
  unfold effO
  rw [F.e]
theorem xWk.fr {w b : Nat} (h : xWk g s w b) (F : xFr O N g g') (h2 : ¬ O 2) : xWk g' s w b := by
  obtain ⟨t1, t2, t3, t4, t5, t6⟩ := h
  have hb : b < xsz g := xlt (by rw [t1]; decide)
  have ho : ¬ O (xown g b) := by rw [t2]; exact h2
  exact ⟨(F.tag hb).trans t1, (F.own hb).trans t2, (F.i' hb ho).trans t3, (F.i' hb ho).trans t4, (F.i' hb ho).trans t5, by rw [F.r' hb ho, effO_fr F]; exact t6⟩
theorem xSc.fr {cs : Nat → Nat} {o : Nat} (h : xSc g s n cs) (hq : ∀ i, i < n → xown g (cs i) = o) (F : xFr O N g g') (ho : ¬ O o) : xSc g' s n cs := fun i hi => by
  obtain ⟨t1, t2, t3, t4⟩ := h i hi
  have hb : cs i < xsz g := xlt (by rw [t1]; decide)
  have h1 : ¬ O (xown g (cs i)) := by rw [hq i hi]; exact ho
  exact ⟨(F.tag hb).trans t1, (F.i' hb h1).trans t2, (F.r' hb h1).trans t3, by rw [F.r' hb h1, effO_fr F]; exact t4⟩
theorem xTst.fr {r : Nat} {ts : List Nat} (h : xTst g s r ts) (hq : ∀ j, j < ts.length → xown g (ts.getD j 0) = 2) (F : xFr O N g g') (h2 : ¬ O 2) : xTst g' s r ts := by
  refine ⟨h.1, fun j hj => ?_⟩
  obtain ⟨t1, t2, t3, t4, t5⟩ := h.2 j hj
  have hb : ts.getD j 0 < xsz g := xlt (by omega)
  have ho : ¬ O (xown g (ts.getD j 0)) := by rw [hq j hj]; exact h2
  rw [F.tag hb, F.i' hb ho, F.i' hb ho]
  exact ⟨t1, t2, t3, t4, t5⟩
theorem xRu.fr {r a o tl arr : Nat} {ts : List Nat} (h : xRu g s r a o tl arr ts) (hq : ∀ j, j < ts.length → xown g (ts.getD j 0) = 2) (F : xFr O N g g') (ha : ¬ O (xown g a)) (ho : ¬ O o) (h2 : ¬ O 2) : xRu g' s r a o tl arr ts := by
  obtain ⟨t1, t2, t3, t4, t5, t6, t7, t8, t9, t10, t11, t12, t13⟩ := h
  have hb : a < xsz g := xlt (by omega)
  have e : xc g' a = xc g a := F.c hb ha
  have eI : ∀ j, xi g' a j = xi g a j := fun j => xi_c e
  have eR : ∀ j, xr g' a j = xr g a j := fun j => xr_c e
  have eT : xtag g' a = xtag g a := F.tag hb
  have e1 : rOf g' a = rOf g a := by unfold rOf; rw [eT, eI]
  have e2 : rDep g' a = rDep g a := by unfold rDep; rw [eT, eI]
  have e3 : rEff g' a = rEff g a := by unfold rEff; rw [eT, eR]
  refine ⟨by rw [eT]; exact t1, by rw [eI]; exact t2, by rw [eI]; exact t3, by rw [eI]; exact t4, by rw [eI]; exact t5, by rw [eI]; exact t6, by rw [eI]; exact t7, by rw [eR]; exact t8, t9.fr F ho, t10.fr hq F h2, by rw [e1]; exact t11, by rw [e2]; exact t12, by rw [e3, effO_fr F]; exact t13⟩
theorem xRp.fr {r : Nat} (h : xRp g p Z s r) (hr : r < 16) (F : xFr O N g g') (hp : ∀ o, oP p o → ¬ O o) (h2 : ¬ O 2) : xRp g' p Z s r := by
  obtain ⟨t1, t2, t3, t4⟩ := h
  have hb : (aR Z).getD r 0 < xsz g := xlt (by have := t1.1; omega)
  have hta : xtag g (aTa Z r) = 108 := t1.2.2.2.2.2.2.2.2.1.2.2.2.2.1
  have hl : aTa Z r < xsz g := xlt (by rw [hta]; decide)
  refine ⟨t1.fr t4 F (by rw [t2]; exact hp _ ⟨by omega, by omega⟩) (hp _ ⟨by omega, by omega⟩) h2, (F.own hb).trans t2, by rw [F.len hl]; exact t3, fun j hj => ?_⟩
  have ht := t1.2.2.2.2.2.2.2.2.2.1.2 j hj
  rw [F.own (xlt (by omega))]
  exact t4 j hj
theorem xPl.fr {o1 o2 o3 sl rl wl sa ra wa : Nat} {cs rs ws : List Nat} (h : xPl g p o1 o2 o3 sl rl wl sa ra wa cs rs ws) (F : xFr O N g g') (h0 : ¬ O (xown g p)) (h1 : ¬ O o1) (h2 : ¬ O o2) (h3 : ¬ O o3) : xPl g' p o1 o2 o3 sl rl wl sa ra wa cs rs ws := by
  obtain ⟨t1, t2, t3, t4, t5, t6, t7⟩ := h
  have hb : p < xsz g := xlt (by rw [t1]; decide)
  exact ⟨(F.tag hb).trans t1, (F.r' hb h0).trans t2, (F.r' hb h0).trans t3, (F.r' hb h0).trans t4, t5.fr F h1, t6.fr F h2, t7.fr F h3⟩
theorem xPol.fr (h : xPol g p Z s n rr ww) (F : xFr O N g g') (hp : ∀ o, oP p o → ¬ O o) (h2 : ¬ O 2) : xPol g' p Z s n rr ww := by
  have hz : ∀ {a : Nat}, xtag g a = 108 → a < xsz g := fun h => xlt (by rw [h]; decide)
  refine ⟨h.p0, h.wf, h.2.2.1, (F.own h.lt).trans h.own, h.pl.fr F (by rw [h.own]; exact hp _ ⟨by omega, by omega⟩) (hp _ ⟨by omega, by omega⟩) (hp _ ⟨by omega, by omega⟩) (hp _ ⟨by omega, by omega⟩), ⟨?_, ?_, ?_⟩, ⟨h.sc.fr (o := 1000 * p) (fun i hi => h.so hi) F (hp _ ⟨by omega, by omega⟩), fun i hi => ?_⟩, fun r hr => (h.rp hr).fr (by have := h.wf.r16; omega) F hp h2, fun w hw => (h.wk hw).fr F h2⟩
  · rw [F.len (hz h.l0.2.2.2.2.1)]; exact h.c0
  · rw [F.len (hz h.l1.2.2.2.2.1)]; exact h.c1
  · rw [F.len (hz h.l2.2.2.2.2.1)]; exact h.c2
  · rw [F.own (xlt (by have := (h.sc i hi).1; rw [show (fun i => (aC Z).getD i 0) i = (aC Z).getD i 0 from rfl] at this; rw [this]; decide))]
    exact h.so hi
end P11
