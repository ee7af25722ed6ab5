/-! CORE 7: reads over writes; shapes of contracts -/
set_option maxRecDepth 100000
section X7
variable {g : xG} {a b j k n : Nat} {c : xCell}
theorem xE_setI {v : Int32} : xE (xsetI g a j v) = xE g := rfl
theorem xsz_setI {v : Int32} : xsz (xsetI g a j v) = xsz g := rfl
theorem xsl_setI {v : Int32} : xsl (xsetI g a j v) = xsl g := rfl
theorem xtag_setI {v : Int32} : xtag (xsetI g a j v) b = xtag g b := by
  show (xc (xPut g a _) b).1 = (xc g b).1
  by_cases h : b = a
  · subst h
    by_cases h2 : b < xsz g
    · rw [xc_put h2]
      rfl
    · unfold xc
      rw [if_neg h2, if_neg (show ¬ b < xsz (xPut g b _) from h2)]
  · rw [xc_putN h]
theorem xown_setI {v : Int32} : xown (xsetI g a j v) b = xown g b := by
  show (xc (xPut g a _) b).2.1 = (xc g b).2.1
  by_cases h : b = a
  · subst h
    by_cases h2 : b < xsz g
    · rw [xc_put h2]
      rfl
    · unfold xc
      rw [if_neg h2, if_neg (show ¬ b < xsz (xPut g b _) from h2)]
  · rw [xc_putN h]
theorem xlen_setI {v : Int32} : xlen (xsetI g a j v) b = xlen g b := by
  show (xc (xPut g a _) b).2.2.1 = (xc g b).2.2.1
  by_cases h : b = a
  · subst h
    by_cases h2 : b < xsz g
    · rw [xc_put h2]
      rfl
    · unfold xc
      rw [if_neg h2, if_neg (show ¬ b < xsz (xPut g b _) from h2)]
  · rw [xc_putN h]
theorem xi_setI {v : Int32} (h : xtag g a ≠ 0) : xi (xsetI g a j v) b k = if b = a ∧ k = j then v else xi g b k := by
  show (xc (xPut g a _) b).2.2.2.1 k = _
  by_cases h1 : b = a
  · subst h1
    rw [xc_put (xlt h)]
    by_cases h2 : k = j
    · subst h2
      rw [if_pos ⟨rfl, rfl⟩]
      exact if_pos rfl
    · rw [if_neg (fun q => h2 q.2)]
      exact if_neg h2
  · rw [xc_putN h1, if_neg (fun q => h1 q.1)]
    rfl
theorem xi_setIN {v : Int32} (h1 : b ≠ a) : xi (xsetI g a j v) b k = xi g b k := by
  show (xc (xPut g a _) b).2.2.2.1 k = _
  rw [xc_putN h1]
  rfl
theorem xi_setIK {v : Int32} (h2 : k ≠ j) : xi (xsetI g a j v) b k = xi g b k := by
  by_cases h1 : b = a
  · subst h1
    by_cases h3 : b < xsz g
    · show (xc (xPut g b _) b).2.2.2.1 k = _
      rw [xc_put h3]
      exact if_neg h2
    · show (xc (xPut g b _) b).2.2.2.1 k = (xc g b).2.2.2.1 k
      unfold xc
      rw [if_neg h3, if_neg (show ¬ b < xsz (xPut g b _) from h3)]
  · exact xi_setIN h1
theorem xi_setIS {v : Int32} (h : xtag g a ≠ 0) : xi (xsetI g a j v) a j = v := by rw [xi_setI h, if_pos ⟨rfl, rfl⟩]
theorem xr_setI {v : Int32} : xr (xsetI g a j v) b k = xr g b k := by
  show (xc (xPut g a _) b).2.2.2.2.1 k = (xc g b).2.2.2.2.1 k
  by_cases h : b = a
  · subst h
    by_cases h2 : b < xsz g
    · rw [xc_put h2]
      rfl
    · unfold xc
      rw [if_neg h2, if_neg (show ¬ b < xsz (xPut g b _) from h2)]
  · rw [xc_putN h]
theorem xww_setI {v : Int32} : xw (xsetI g a j v) b k = xw g b k := by
  show (xc (xPut g a _) b).2.2.2.2.2 k = (xc g b).2.2.2.2.2 k
  by_cases h : b = a
  · subst h
    by_cases h2 : b < xsz g
    · rw [xc_put h2]
      rfl
    · unfold xc
      rw [if_neg h2, if_neg (show ¬ b < xsz (xPut g b _) from h2)]
  · rw [xc_putN h]
theorem xc_setI {v : Int32} (h : b ≠ a) : xc (xsetI g a j v) b = xc g b := xc_putN h
theorem xE_setR {v : Option Nat} : xE (xsetR g a j v) = xE g := rfl
theorem xsz_setR {v : Option Nat} : xsz (xsetR g a j v) = xsz g := rfl
theorem xsl_setR {v : Option Nat} : xsl (xsetR g a j v) = xsl g := rfl
theorem xtag_setR {v : Option Nat} : xtag (xsetR g a j v) b = xtag g b := by
  show (xc (xPut g a _) b).1 = (xc g b).1
  by_cases h : b = a
  · subst h
    by_cases h2 : b < xsz g
    · rw [xc_put h2]
      rfl
    · unfold xc
      rw [if_neg h2, if_neg (show ¬ b < xsz (xPut g b _) from h2)]
  · rw [xc_putN h]
theorem xown_setR {v : Option Nat} : xown (xsetR g a j v) b = xown g b := by
  show (xc (xPut g a _) b).2.1 = (xc g b).2.1
  by_cases h : b = a
  · subst h
    by_cases h2 : b < xsz g
    · rw [xc_put h2]
      rfl
    · unfold xc
      rw [if_neg h2, if_neg (show ¬ b < xsz (xPut g b _) from h2)]
  · rw [xc_putN h]
theorem xlen_setR {v : Option Nat} : xlen (xsetR g a j v) b = xlen g b := by
  show (xc (xPut g a _) b).2.2.1 = (xc g b).2.2.1
  by_cases h : b = a
  · subst h
    by_cases h2 : b < xsz g
    · rw [xc_put h2]
      rfl
    · unfold xc
      rw [if_neg h2, if_neg (show ¬ b < xsz (xPut g b _) from h2)]
  · rw [xc_putN h]
theorem xi_setR {v : Option Nat} : xi (xsetR g a j v) b k = xi g b k := by
  show (xc (xPut g a _) b).2.2.2.1 k = (xc g b).2.2.2.1 k
  by_cases h : b = a
  · subst h
    by_cases h2 : b < xsz g
    · rw [xc_put h2]
      rfl
    · unfold xc
      rw [if_neg h2, if_neg (show ¬ b < xsz (xPut g b _) from h2)]
  · rw [xc_putN h]
theorem xr_setR {v : Option Nat} (h : xtag g a ≠ 0) : xr (xsetR g a j v) b k = if b = a ∧ k = j then v else xr g b k := by
  show (xc (xPut g a _) b).2.2.2.2.1 k = _
  by_cases h1 : b = a
  · subst h1
    rw [xc_put (xlt h)]
    by_cases h2 : k = j
    · subst h2
      rw [if_pos ⟨rfl, rfl⟩]
      exact if_pos rfl
    · rw [if_neg (fun q => h2 q.2)]
      exact if_neg h2
  · rw [xc_putN h1, if_neg (fun q => h1 q.1)]
    rfl
theorem xr_setRN {v : Option Nat} (h1 : b ≠ a) : xr (xsetR g a j v) b k = xr g b k := by
  show (xc (xPut g a _) b).2.2.2.2.1 k = _
  rw [xc_putN h1]
  rfl
theorem xr_setRK {v : Option Nat} (h2 : k ≠ j) : xr (xsetR g a j v) b k = xr g b k := by
  by_cases h1 : b = a
  · subst h1
    by_cases h3 : b < xsz g
    · show (xc (xPut g b _) b).2.2.2.2.1 k = _
      rw [xc_put h3]
      exact if_neg h2
    · show (xc (xPut g b _) b).2.2.2.2.1 k = (xc g b).2.2.2.2.1 k
      unfold xc
      rw [if_neg h3, if_neg (show ¬ b < xsz (xPut g b _) from h3)]
  · exact xr_setRN h1
theorem xr_setRS {v : Option Nat} (h : xtag g a ≠ 0) : xr (xsetR g a j v) a j = v := by rw [xr_setR h, if_pos ⟨rfl, rfl⟩]
theorem xww_setR {v : Option Nat} : xw (xsetR g a j v) b k = xw g b k := by
  show (xc (xPut g a _) b).2.2.2.2.2 k = (xc g b).2.2.2.2.2 k
  by_cases h : b = a
  · subst h
    by_cases h2 : b < xsz g
    · rw [xc_put h2]
      rfl
    · unfold xc
      rw [if_neg h2, if_neg (show ¬ b < xsz (xPut g b _) from h2)]
  · rw [xc_putN h]
theorem xc_setR {v : Option Nat} (h : b ≠ a) : xc (xsetR g a j v) b = xc g b := xc_putN h
theorem xE_setW {v : UInt64} : xE (xsetW g a j v) = xE g := rfl
theorem xsz_setW {v : UInt64} : xsz (xsetW g a j v) = xsz g := rfl
theorem xsl_setW {v : UInt64} : xsl (xsetW g a j v) = xsl g := rfl
theorem xtag_setW {v : UInt64} : xtag (xsetW g a j v) b = xtag g b := by
  show (xc (xPut g a _) b).1 = (xc g b).1
  by_cases h : b = a
  · subst h
    by_cases h2 : b < xsz g
    · rw [xc_put h2]
      rfl
    · unfold xc
      rw [if_neg h2, if_neg (show ¬ b < xsz (xPut g b _) from h2)]
  · rw [xc_putN h]
theorem xown_setW {v : UInt64} : xown (xsetW g a j v) b = xown g b := by
  show (xc (xPut g a _) b).2.1 = (xc g b).2.1
  by_cases h : b = a
  · subst h
    by_cases h2 : b < xsz g
    · rw [xc_put h2]
      rfl
    · unfold xc
      rw [if_neg h2, if_neg (show ¬ b < xsz (xPut g b _) from h2)]
  · rw [xc_putN h]
theorem xlen_setW {v : UInt64} : xlen (xsetW g a j v) b = xlen g b := by
  show (xc (xPut g a _) b).2.2.1 = (xc g b).2.2.1
  by_cases h : b = a
  · subst h
    by_cases h2 : b < xsz g
    · rw [xc_put h2]
      rfl
    · unfold xc
      rw [if_neg h2, if_neg (show ¬ b < xsz (xPut g b _) from h2)]
  · rw [xc_putN h]
theorem xi_setW {v : UInt64} : xi (xsetW g a j v) b k = xi g b k := by
  show (xc (xPut g a _) b).2.2.2.1 k = (xc g b).2.2.2.1 k
  by_cases h : b = a
  · subst h
    by_cases h2 : b < xsz g
    · rw [xc_put h2]
      rfl
    · unfold xc
      rw [if_neg h2, if_neg (show ¬ b < xsz (xPut g b _) from h2)]
  · rw [xc_putN h]
theorem xr_setW {v : UInt64} : xr (xsetW g a j v) b k = xr g b k := by
  show (xc (xPut g a _) b).2.2.2.2.1 k = (xc g b).2.2.2.2.1 k
  by_cases h : b = a
  · subst h
    by_cases h2 : b < xsz g
    · rw [xc_put h2]
      rfl
    · unfold xc
      rw [if_neg h2, if_neg (show ¬ b < xsz (xPut g b _) from h2)]
  · rw [xc_putN h]
theorem xww_setW {v : UInt64} (h : xtag g a ≠ 0) : xw (xsetW g a j v) b k = if b = a ∧ k = j then v else xw g b k := by
  show (xc (xPut g a _) b).2.2.2.2.2 k = _
  by_cases h1 : b = a
  · subst h1
    rw [xc_put (xlt h)]
    by_cases h2 : k = j
    · subst h2
      rw [if_pos ⟨rfl, rfl⟩]
      exact if_pos rfl
    · rw [if_neg (fun q => h2 q.2)]
      exact if_neg h2
  · rw [xc_putN h1, if_neg (fun q => h1 q.1)]
    rfl
theorem xww_setWN {v : UInt64} (h1 : b ≠ a) : xw (xsetW g a j v) b k = xw g b k := by
  show (xc (xPut g a _) b).2.2.2.2.2 k = _
  rw [xc_putN h1]
  rfl
theorem xww_setWK {v : UInt64} (h2 : k ≠ j) : xw (xsetW g a j v) b k = xw g b k := by
  by_cases h1 : b = a
  · subst h1
    by_cases h3 : b < xsz g
    · show (xc (xPut g b _) b).2.2.2.2.2 k = _
      rw [xc_put h3]
      exact if_neg h2
    · show (xc (xPut g b _) b).2.2.2.2.2 k = (xc g b).2.2.2.2.2 k
      unfold xc
      rw [if_neg h3, if_neg (show ¬ b < xsz (xPut g b _) from h3)]
  · exact xww_setWN h1
theorem xww_setWS {v : UInt64} (h : xtag g a ≠ 0) : xw (xsetW g a j v) a j = v := by rw [xww_setW h, if_pos ⟨rfl, rfl⟩]
theorem xc_setW {v : UInt64} (h : b ≠ a) : xc (xsetW g a j v) b = xc g b := xc_putN h
theorem xE_new : xE (xNew g c n) = xE g := rfl
theorem xsz_new : xsz (xNew g c n) = xsz g + 1 := rfl
theorem xsl_new : xsl (xNew g c n) = xsl g + n := rfl
theorem xtag_new (h : b < xsz g) : xtag (xNew g c n) b = xtag g b := by
  show (xc (xNew g c n) b).1 = _
  rw [xc_newN (Nat.ne_of_lt h)]
  rfl
theorem xtag_newS (h : b = xsz g) : xtag (xNew g c n) b = c.1 := by
  subst h
  show (xc (xNew g c n) (xsz g)).1 = _
  rw [xc_new]
theorem xown_new (h : b < xsz g) : xown (xNew g c n) b = xown g b := by
  show (xc (xNew g c n) b).2.1 = _
  rw [xc_newN (Nat.ne_of_lt h)]
  rfl
theorem xown_newS (h : b = xsz g) : xown (xNew g c n) b = c.2.1 := by
  subst h
  show (xc (xNew g c n) (xsz g)).2.1 = _
  rw [xc_new]
theorem xlen_new (h : b < xsz g) : xlen (xNew g c n) b = xlen g b := by
  show (xc (xNew g c n) b).2.2.1 = _
  rw [xc_newN (Nat.ne_of_lt h)]
  rfl
theorem xlen_newS (h : b = xsz g) : xlen (xNew g c n) b = c.2.2.1 := by
  subst h
  show (xc (xNew g c n) (xsz g)).2.2.1 = _
  rw [xc_new]
theorem xi_new (h : b < xsz g) : xi (xNew g c n) b k = xi g b k := by
  show (xc (xNew g c n) b).2.2.2.1 k = _
  rw [xc_newN (Nat.ne_of_lt h)]
  rfl
theorem xi_newS (h : b = xsz g) : xi (xNew g c n) b k = c.2.2.2.1 k := by
  subst h
  show (xc (xNew g c n) (xsz g)).2.2.2.1 k = _
  rw [xc_new]
theorem xr_new (h : b < xsz g) : xr (xNew g c n) b k = xr g b k := by
  show (xc (xNew g c n) b).2.2.2.2.1 k = _
  rw [xc_newN (Nat.ne_of_lt h)]
  rfl
theorem xr_newS (h : b = xsz g) : xr (xNew g c n) b k = c.2.2.2.2.1 k := by
  subst h
  show (xc (xNew g c n) (xsz g)).2.2.2.2.1 k = _
  rw [xc_new]
theorem xww_new (h : b < xsz g) : xw (xNew g c n) b k = xw g b k := by
  show (xc (xNew g c n) b).2.2.2.2.2 k = _
  rw [xc_newN (Nat.ne_of_lt h)]
  rfl
theorem xww_newS (h : b = xsz g) : xw (xNew g c n) b k = c.2.2.2.2.2 k := by
  subst h
  show (xc (xNew g c n) (xsz g)).2.2.2.2.2 k = _
  rw [xc_new]
theorem xne_tag (h : xtag g a ≠ xtag g b) : a ≠ b := fun q => h (by rw [q])
theorem xne_own (h : xown g a ≠ xown g b) : a ≠ b := fun q => h (by rw [q])
end X7
/-- an answer and a heap, and no other -/
def xOne (v : Option Value) (g1 : xG) (rs : Option Value ⊕ Nat) (g' : xG) : Prop := rs = .inl v ∧ g' = g1
section X7b
variable {M M' : xM} {d pc : Nat} {l : List (Nat × Value)} {rest : List Value} {g g1 : xG} {Q P : Option Value ⊕ Nat → xG → Prop} {st0 as : List Value}
theorem xw_callV {v : Value} (hrun : xRun M M' d pc g st0 rest as) (hc : XM M' d as g (xOne (some v) g1)) (k : XW M (d + 1) (pc + 3) l (v :: rest) g1 Q) : XW M (d + 1) pc l st0 g Q :=
  xw_call hrun hc (fun rs g2 h _ => by
    obtain ⟨rfl, rfl⟩ := h
    exact k)
theorem xw_callU (hrun : xRun M M' d pc g st0 rest as) (hc : XM M' d as g (xOne none g1)) (k : XW M (d + 1) (pc + 3) l rest g1 Q) : XW M (d + 1) pc l st0 g Q :=
  xw_call hrun hc (fun rs g2 h _ => by
    obtain ⟨rfl, rfl⟩ := h
    exact k)
/-- a value that's known by a law, or a heap -/
def xInl (F : Value → xG → Prop) (rs : Option Value ⊕ Nat) (g' : xG) : Prop := ∃ v, rs = .inl (some v) ∧ F v g'
def xVoid (F : xG → Prop) (rs : Option Value ⊕ Nat) (g' : xG) : Prop := rs = .inl none ∧ F g'
theorem xw_callG {F : Value → xG → Prop} (hrun : xRun M M' d pc g st0 rest as) (hc : XM M' d as g (xInl F)) (k : ∀ v g1, F v g1 → xMono g g1 → XW M (d + 1) (pc + 3) l (v :: rest) g1 Q) : XW M (d + 1) pc l st0 g Q :=
  xw_call hrun hc (fun rs g2 h hm => by
    obtain ⟨v, rfl, h2⟩ := h
    exact k v g2 h2 hm)
theorem xw_callH {F : xG → Prop} (hrun : xRun M M' d pc g st0 rest as) (hc : XM M' d as g (xVoid F)) (k : ∀ g1, F g1 → xMono g g1 → XW M (d + 1) (pc + 3) l rest g1 Q) : XW M (d + 1) pc l st0 g Q :=
  xw_call hrun hc (fun rs g2 h hm => by
    obtain ⟨rfl, h2⟩ := h
    exact k g2 h2 hm)
end X7b
