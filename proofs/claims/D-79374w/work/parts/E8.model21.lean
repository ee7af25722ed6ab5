/-! MODEL 21: what is read is bounded -/
set_option maxRecDepth 100000
def tOk (t : xT3) : Prop := t.1 < 6 ∧ t.2.1 < 4 ∧ t.2.2 < 10
def tsOk (T : List xT3) : Prop := ∀ j, j < T.length → tOk (T.getD j (0, 0, 0))
/-- a draft that's well made -/
def dOK (D : xDf) : Prop := match D with
  | (e, o, s, T, f, l, k) => ((∃ i, e = some i ∧ i < 3 ∧ o = none) ∨ (e = none ∧ ∃ v, o = some v ∧ v < 1000)) ∧ s < 10 ∧ f < 1000 ∧ l < 1000 ∧ k < 10 ∧ T.length ≤ 15 ∧ tsOk T
theorem hIn_b {n p a b : Nat} {ch : Nat → Nat} (h : hIn n ch p a b = true) : p < n ∧ a ≤ ch p ∧ ch p ≤ b := by
  have h9 := of_decide_eq_true h
  exact ⟨h9.1, by omega, by omega⟩
theorem rTo_ok {n p : Nat} {ch : Nat → Nat} {t : xT3} (h : rTo n ch p = .ok t) : tOk t := by
  unfold rTo at h
  split at h
  · rename_i h1
    have b1 := hIn_b h1
    split at h
    · split at h
      · rename_i s hs
        split at h
        · rename_i h3
          have b3 := hIn_b h3
          cases h
          exact ⟨by dsimp only; omega, sgX_lt hs, by dsimp only; omega⟩
        · cases h
      · cases h
    · cases h
  · cases h
theorem tsOk.push {T : List xT3} {t : xT3} (h : tsOk T) (ht : tOk t) : tsOk (T ++ [t]) := fun j hj => by
  by_cases hl : j < T.length
  · rw [List.getD_eq_getElem?_getD, List.getElem?_append_left hl, ← List.getD_eq_getElem?_getD]
    exact h j hl
  · have hj2 : j = T.length := by rw [List.length_append] at hj; simp at hj; omega
    subst hj2
    rw [List.getD_eq_getElem?_getD, List.getElem?_append_right (Nat.le_refl _)]
    simpa using ht
theorem rMo_ok {n : Nat} {ch : Nat → Nat} : ∀ (k p : Nat) (T T' : List xT3) (q : Nat), rMo n ch k p T = .ok (T', q) → 4 * T.length ≤ p → p ≤ n → tsOk T → 4 * T'.length ≤ n ∧ tsOk T' ∧ q ≤ n := by
  intro k
  induction k with
  | zero => intro p T T' q h; unfold rMo at h; cases h
  | succ k ih =>
    intro p T T' q h h4 hp hT
    unfold rMo at h
    split at h
    · split at h
      · rename_i t ht
        have b := rTo_lt ht
        exact ih (p + 4) (T ++ [t]) T' q h (by rw [List.length_append]; simp; omega) (by omega) (hT.push (rTo_ok ht))
      · cases h
    · split at h
      · rename_i h2
        have b := of_decide_eq_true h2
        cases h
        exact ⟨by omega, hT, by omega⟩
      · cases h
theorem rTs_ok {n p : Nat} {ch : Nat → Nat} {T : List xT3} {q : Nat} (h : rTs n ch p = .ok (T, q)) : 4 * T.length ≤ n ∧ tsOk T ∧ q ≤ n := by
  unfold rTs at h
  split at h
  · split at h
    · rename_i h1 h2
      have b := of_decide_eq_true h2
      cases h
      exact ⟨by simp, fun j hj => absurd hj (Nat.not_lt_zero j), by omega⟩
    · split at h
      · rename_i t ht
        have b := rTo_lt ht
        refine rMo_ok _ _ _ _ _ h (by simp) (by omega) (fun j hj => ?_)
        have : j = 0 := by simp at hj; omega
        subst this
        exact rTo_ok ht
      · cases h
  · cases h
theorem rNs_v {n : Nat} {ch : Nat → Nat} : ∀ (k v p b : Nat), v < b → (rNs n ch k v p).1 < b * 10 ^ k := by
  intro k
  induction k with
  | zero => intro v p b h; unfold rNs; simpa using h
  | succ k ih =>
    intro v p b h
    unfold rNs
    split
    · rename_i h1
      have b1 := hIn_b h1
      have h9 := ih (10 * v + (ch p - 48)) (p + 1) (10 * b) (by omega)
      have e : 10 * b * 10 ^ k = b * 10 ^ (k + 1) := by rw [Nat.pow_succ, Nat.mul_comm 10 b, Nat.mul_assoc, Nat.mul_comm 10]
      omega
    · have : 1 ≤ 10 ^ (k + 1) := Nat.pow_pos (by decide)
      exact Nat.lt_of_lt_of_le h (Nat.le_mul_of_pos_right _ this)
theorem rN3 {n q : Nat} {ch : Nat → Nat} (h : hIn n ch q 48 57 = true) : (rNs n ch 2 (ch q - 48) (q + 1)).1 < 1000 := by
  have b := hIn_b h
  exact rNs_v 2 (ch q - 48) (q + 1) 10 (by omega)
theorem rRk_ok {n p : Nat} {ch : Nat → Nat} {e o : Option Nat} {s f l : Nat} {T : List xT3} {D : xDf} (h : rRk n ch p e o s T f l = .ok D) (k : ∀ k, k < 10 → dOK (e, o, s, T, f, l, k)) : dOK D := by
  unfold rRk at h
  split at h
  · split at h
    · rename_i h2
      have b := hIn_b h2
      unfold rEn at h
      split at h
      · cases h; exact k _ (by omega)
      · cases h
    · cases h
  · unfold rEn at h
    split at h
    · cases h; exact k _ (by omega)
    · cases h
theorem rLa_ok {n p : Nat} {ch : Nat → Nat} {e o : Option Nat} {s f : Nat} {T : List xT3} {D : xDf} (h : rLa n ch p e o s T f = .ok D) (k : ∀ l, l < 1000 → ∀ k, k < 10 → dOK (e, o, s, T, f, l, k)) : dOK D := by
  unfold rLa at h
  split at h
  · split at h
    · rename_i h2
      exact rRk_ok h (k _ (rN3 h2))
    · cases h
  · cases h
theorem rDy_ok {n p : Nat} {ch : Nat → Nat} {e o : Option Nat} {s : Nat} {T : List xT3} {D : xDf} (h : rDy n ch p e o s T = .ok D) (k : ∀ f, f < 1000 → ∀ l, l < 1000 → ∀ k, k < 10 → dOK (e, o, s, T, f, l, k)) : dOK D := by
  unfold rDy at h
  split at h
  · split at h
    · rename_i h2
      exact rLa_ok h (k _ (rN3 h2))
    · cases h
  · exact rRk_ok h (k 0 (by omega) 999 (by omega))
theorem rSc_ok {n p : Nat} {ch : Nat → Nat} {e o : Option Nat} {D : xDf} (hn : n ≤ 60) (h : rSc n ch p e o = .ok D) (k : ((∃ i, e = some i ∧ i < 3 ∧ o = none) ∨ (e = none ∧ ∃ v, o = some v ∧ v < 1000))) : dOK D := by
  unfold rSc at h
  split at h
  · rename_i h1
    have b := hIn_b h1
    split at h
    · rename_i T q ht
      have bt := rTs_ok ht
      exact rDy_ok h (fun f hf l hl kk hk => ⟨k, by omega, hf, hl, hk, by omega, bt.2.1⟩)
    · cases h
  · cases h
theorem rHd_ok {n p q : Nat} {ch : Nat → Nat} {e o : Option Nat} (h : rHd n ch p = .ok ((e, o), q)) : (∃ i, e = some i ∧ i < 3 ∧ o = none) ∨ (e = none ∧ ∃ v, o = some v ∧ v < 1000) := by
  unfold rHd at h
  split at h
  · split at h
    · rename_i h2
      split at h
      · cases h
        exact Or.inr ⟨rfl, _, rfl, rN3 h2⟩
      · cases h
    · cases h
  · split at h
    · cases h; exact Or.inl ⟨0, rfl, by decide, rfl⟩
    · split at h
      · cases h; exact Or.inl ⟨1, rfl, by decide, rfl⟩
      · split at h
        · cases h; exact Or.inl ⟨2, rfl, by decide, rfl⟩
        · cases h
theorem rAll_ok {n : Nat} {ch : Nat → Nat} {D : xDf} (hn : n ≤ 60) (h : rAll n ch = .ok D) : dOK D := by
  unfold rAll at h
  split at h
  · rename_i e o q hh
    exact rSc_ok hn h (rHd_ok hh)
  · cases h
