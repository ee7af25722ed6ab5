/-! CORE 19: frames: who may be written, how much is made -/
set_option maxRecDepth 100000
/-- from g to g' only cells of the owners O were written; at most n cells and slots are new -/
def xFr (O : Nat → Prop) (n : Nat) (g g' : xG) : Prop := xE g' = xE g ∧ xsz g ≤ xsz g' ∧ xsl g ≤ xsl g' ∧ xsz g' + xsl g' ≤ xsz g + xsl g + n ∧
  ∀ c, c < xsz g → xtag g' c = xtag g c ∧ xown g' c = xown g c ∧ xlen g' c = xlen g c ∧ (¬ O (xown g c) → xc g' c = xc g c)
section X19
variable {O O' : Nat → Prop} {n m k a b j t o : Nat} {g g1 g2 g' : xG}
theorem xFr.rf : xFr O n g g := ⟨rfl, Nat.le_refl _, Nat.le_refl _, Nat.le_add_right _ _, fun _ _ => ⟨rfl, rfl, rfl, fun _ => rfl⟩⟩
theorem xFr.e (h : xFr O n g g') : xE g' = xE g := h.1
theorem xFr.le (h : xFr O n g g') : xsz g ≤ xsz g' := h.2.1
theorem xFr.lt (h : xFr O n g g') (hc : a < xsz g) : a < xsz g' := Nat.lt_of_lt_of_le hc h.2.1
theorem xFr.tag (h : xFr O n g g') (hc : a < xsz g) : xtag g' a = xtag g a := (h.2.2.2.2 a hc).1
theorem xFr.own (h : xFr O n g g') (hc : a < xsz g) : xown g' a = xown g a := (h.2.2.2.2 a hc).2.1
theorem xFr.len (h : xFr O n g g') (hc : a < xsz g) : xlen g' a = xlen g a := (h.2.2.2.2 a hc).2.2.1
theorem xFr.c (h : xFr O n g g') (hc : a < xsz g) (ho : ¬ O (xown g a)) : xc g' a = xc g a := (h.2.2.2.2 a hc).2.2.2 ho
theorem xFr.i' (h : xFr O n g g') (hc : a < xsz g) (ho : ¬ O (xown g a)) : xi g' a j = xi g a j := by unfold xi; rw [h.c hc ho]
theorem xFr.r' (h : xFr O n g g') (hc : a < xsz g) (ho : ¬ O (xown g a)) : xr g' a j = xr g a j := by unfold xr; rw [h.c hc ho]
theorem xFr.w' (h : xFr O n g g') (hc : a < xsz g) (ho : ¬ O (xown g a)) : xw g' a j = xw g a j := by unfold xw; rw [h.c hc ho]
theorem xFr.tr (h : xFr O n g g1) (q : xFr O m g1 g2) : xFr O (n + m) g g2 := by
  refine ⟨q.1.trans h.1, Nat.le_trans h.2.1 q.2.1, Nat.le_trans h.2.2.1 q.2.2.1, by have := h.2.2.2.1; have := q.2.2.2.1; omega, fun c hc => ?_⟩
  obtain ⟨a1, a2, a3, a4⟩ := h.2.2.2.2 c hc
  obtain ⟨b1, b2, b3, b4⟩ := q.2.2.2.2 c (Nat.lt_of_lt_of_le hc h.2.1)
  exact ⟨b1.trans a1, b2.trans a2, b3.trans a3, fun ho => (b4 (by rw [a2]; exact ho)).trans (a4 ho)⟩
theorem xFr.sub (h : xFr O n g g') (k : ∀ o, O o → O' o) (hn : n ≤ m) : xFr O' m g g' :=
  ⟨h.1, h.2.1, h.2.2.1, by have := h.2.2.2.1; omega, fun c hc => ⟨h.tag hc, h.own hc, h.len hc, fun ho => h.c hc (fun q => ho (k _ q))⟩⟩
/-- after O, O': what O' has beyond O isn't old -/
theorem xFr.trN (h : xFr O n g g1) (q : xFr O' m g1 g2) (hO : ∀ c, c < xsz g → O' (xown g c) → O (xown g c)) : xFr O (n + m) g g2 := by
  refine ⟨q.1.trans h.1, Nat.le_trans h.2.1 q.2.1, Nat.le_trans h.2.2.1 q.2.2.1, by have := h.2.2.2.1; have := q.2.2.2.1; omega, fun c hc => ?_⟩
  obtain ⟨a1, a2, a3, a4⟩ := h.2.2.2.2 c hc
  obtain ⟨b1, b2, b3, b4⟩ := q.2.2.2.2 c (Nat.lt_of_lt_of_le hc h.2.1)
  exact ⟨b1.trans a1, b2.trans a2, b3.trans a3, fun ho => (b4 (by rw [a2]; exact fun z => ho (hO c hc z))).trans (a4 ho)⟩
theorem xFr.mono (h : xFr O n g g') : xMono g g' := ⟨h.1, h.2.1, h.2.2.1⟩
/-- one more write, one more cell -/
theorem xFr.put {c : xCell} (h : xFr O n g g1) (h1 : c.1 = xtag g1 a) (h2 : c.2.1 = xown g1 a) (h3 : c.2.2.1 = xlen g1 a) (ho : xsz g ≤ a ∨ O (xown g1 a)) : xFr O n g (xPut g1 a c) := by
  refine ⟨h.1, h.2.1, h.2.2.1, h.2.2.2.1, fun b hb => ?_⟩
  obtain ⟨a1, a2, a3, a4⟩ := h.2.2.2.2 b hb
  by_cases e : b = a
  · subst e
    have hb1 : b < xsz g1 := h.lt hb
    have e1 := xc_put (g := g1) (a := b) (c := c) hb1
    refine ⟨?_, ?_, ?_, fun ho9 => ?_⟩
    · unfold xtag; rw [e1, h1]; exact a1
    · unfold xown; rw [e1, h2]; exact a2
    · unfold xlen; rw [e1, h3]; exact a3
    · exfalso
      rcases ho with ho | ho
      · omega
      · rw [a2] at ho; exact ho9 ho
  · have e1 := xc_putN (g := g1) (a := a) (b := b) (c := c) e
    refine ⟨?_, ?_, ?_, fun ho9 => ?_⟩
    · unfold xtag; rw [e1]; exact a1
    · unfold xown; rw [e1]; exact a2
    · unfold xlen; rw [e1]; exact a3
    · rw [e1]; exact a4 ho9
theorem xFr.si {v : Int32} (h : xFr O n g g1) (ho : xsz g ≤ a ∨ O (xown g1 a)) : xFr O n g (xsetI g1 a j v) := h.put rfl rfl rfl ho
theorem xFr.sr {v : Option Nat} (h : xFr O n g g1) (ho : xsz g ≤ a ∨ O (xown g1 a)) : xFr O n g (xsetR g1 a j v) := h.put rfl rfl rfl ho
theorem xFr.sw {v : UInt64} (h : xFr O n g g1) (ho : xsz g ≤ a ∨ O (xown g1 a)) : xFr O n g (xsetW g1 a j v) := h.put rfl rfl rfl ho
theorem xFr.nw {c : xCell} (h : xFr O n g g1) : xFr O (n + (k + 1)) g (xNew g1 c k) := by
  refine ⟨h.1, Nat.le_trans h.2.1 (Nat.le_succ _), Nat.le_trans h.2.2.1 (Nat.le_add_right _ _), ?_, fun b hb => ?_⟩
  · have := h.2.2.2.1
    show xsz g1 + 1 + (xsl g1 + k) ≤ _
    omega
  · obtain ⟨a1, a2, a3, a4⟩ := h.2.2.2.2 b hb
    have e1 := xc_newN (g := g1) (c := c) (n := k) (b := b) (Nat.ne_of_lt (h.lt hb))
    refine ⟨?_, ?_, ?_, fun ho9 => ?_⟩
    · unfold xtag; rw [e1]; exact a1
    · unfold xown; rw [e1]; exact a2
    · unfold xlen; rw [e1]; exact a3
    · rw [e1]; exact a4 ho9
theorem xFr.exc (h : xFr O n g g1) : xFr O (n + 7) g (xExc g1 t) := h.nw
/-- none is written -/
def oNo : Nat → Prop := fun _ => False
/-- what is new alone -/
def oNew (g : xG) : Nat → Prop := fun o => 1000 * xsz g ≤ o
/-- the policy p's -/
def oP (p : Nat) : Nat → Prop := fun o => 1000 * p ≤ o ∧ o < 1000 * p + 1000
def oEq (p : Nat) : Nat → Prop := fun o => o = p
theorem xi_c {c : Nat} (h : xc g' c = xc g c) : xi g' c j = xi g c j := by unfold xi; rw [h]
theorem xr_c {c : Nat} (h : xc g' c = xc g c) : xr g' c j = xr g c j := by unfold xr; rw [h]
end X19
section X19b
variable {M M' : xM} {d pc : Nat} {l : List (Nat × Value)} {rest : List Value} {g g1 : xG} {Q P : Option Value ⊕ Nat → xG → Prop} {st0 as : List Value}
/-- a call of a contract that fixes the answer, and a heap by a law -/
def xVal (v : Value) (F : xG → Prop) (rs : Option Value ⊕ Nat) (g' : xG) : Prop := rs = .inl (some v) ∧ F g'
theorem xw_callF {v : Value} {F : xG → Prop} (hrun : xRun M M' d pc g st0 rest as) (hc : XM M' d as g (xVal v F)) (k : ∀ g1, F g1 → xMono g g1 → XW M (d + 1) (pc + 3) l (v :: rest) g1 Q) : XW M (d + 1) pc l st0 g Q :=
  xw_call hrun hc (fun rs g2 h hm => by
    obtain ⟨rfl, h2⟩ := h
    exact k g2 h2 hm)
/-- thrown, with a heap by a law -/
def xTh (q : Nat) (F : xG → Prop) (rs : Option Value ⊕ Nat) (g' : xG) : Prop := rs = .inr q ∧ F g'
theorem xw_callXF {q : Nat} {F : xG → Prop} (hrun : xRun M M' d pc g st0 rest as) (hc : XM M' d as g (xTh q F)) (k : ∀ g1, F g1 → xMono g g1 → XX M (d + 1) pc l q g1 Q) : XW M (d + 1) pc l st0 g Q :=
  xw_call hrun hc (fun rs g2 h hm => by
    obtain ⟨rfl, h2⟩ := h
    exact k g2 h2 hm)
end X19b
