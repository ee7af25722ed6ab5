/-! CORE 18: heaps that are alike -/
set_option maxRecDepth 100000
def xEqv (g g' : xG) : Prop := xE g = xE g' ∧ xsz g = xsz g' ∧ xsl g = xsl g' ∧ ∀ b, xc g b = xc g' b
theorem XW.eqv {M : xM} {d pc : Nat} {l : List (Nat × Value)} {st : List Value} {g g' : xG} {Q : Option Value ⊕ Nat → xG → Prop} (h : xEqv g g') (k : XW M d pc l st g' Q) : XW M d pc l st g Q := by
  obtain ⟨hE, hz, hy, hc⟩ := h
  obtain ⟨rs, g2, hQ, hm, hr⟩ := k
  refine ⟨rs, g2, hQ, ⟨hm.1.trans hE.symm, by rw [hz]; exact hm.2.1, by rw [hy]; exact hm.2.2⟩, ?_⟩
  intro p L e R s m args below meth c z0 H locs ls S
  obtain ⟨C, h1, h2, h3, h4, h5, h6, hR, hS, hl⟩ := S
  rw [hE] at C hS
  rw [hz] at h1
  rw [hy] at h2
  have hR' : xR g' H := ⟨by rw [← hz]; exact hR.1, by rw [← hE]; exact hR.2.1, by rw [← hE]; exact hR.2.2.1, fun a => by rw [← hE, ← hc a]; exact hR.2.2.2 a⟩
  rw [hz, hy, hE]
  exact hr p L e R s m args below meth c z0 H locs ls ⟨C, h1, h2, h3, h4, h5, h6, hR', hS, hl⟩
