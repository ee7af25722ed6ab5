/-! FLOATS 1: products and quotients that aren't below 0 -/
set_option maxRecDepth 100000
theorem b32_tails : FP.Core.b32.tails = 8388608 := by decide
theorem b32_exps : FP.Core.b32.exps = 256 := by decide
theorem b32_p : 2 ^ FP.Core.b32.p = 16777216 := by decide
theorem b32_qmin : FP.Core.b32.qmin = -149 := by decide
theorem b32_qmax : FP.Core.b32.qmax = 104 := by decide
/-- not below 0, no NaN, and the last digit's exponent at most K -/
def fPos (K : Int) (d : FP.Core.Datum) : Prop := match d with
  | .nan => False
  | .inf s => s = false ∧ 105 ≤ K
  | .fin s c q => s = false ∧ c < 16777216 ∧ -149 ≤ q ∧ q ≤ 104 ∧ q ≤ K
theorem fPos.mono {K L : Int} {d : FP.Core.Datum} (h : fPos K d) (hL : K ≤ L) : fPos L d := by
  cases d with
  | nan => exact h
  | inf s => exact ⟨h.1, by have := h.2; omega⟩
  | fin s c q => exact ⟨h.1, h.2.1, h.2.2.1, h.2.2.2.1, by have := h.2.2.2.2; omega⟩
theorem fPos_dec {n M : Nat} (h : n ≤ 2139095040) (hM : n < (M + 1) * 8388608) (h1 : 1 ≤ M) : fPos ((M : Int) - 150) (FP.Core.decode FP.Core.b32 n) := by
  unfold FP.Core.decode FP.Core.fieldE FP.Core.fieldT FP.Core.fieldS
  rw [b32_tails, b32_exps, b32_qmin]
  have hE : n / 8388608 % 256 = n / 8388608 := Nat.mod_eq_of_lt (by omega)
  have hS : (n / 8388608 / 256 % 2 == 1) = false := by
    rw [Nat.div_eq_of_lt (by omega)]; rfl
  rw [hE, hS]
  by_cases h2 : n / 8388608 = 256 - 1
  · rw [if_pos h2, if_pos (by omega)]
    exact ⟨rfl, by omega⟩
  · rw [if_neg h2]
    by_cases h3 : n / 8388608 = 0
    · rw [if_pos h3]
      exact ⟨rfl, by omega, by omega, by omega, by omega⟩
    · rw [if_neg h3]
      exact ⟨rfl, by omega, by omega, by omega, by omega⟩
theorem fPos_enc {K : Int} {d : FP.Core.Datum} (h : fPos K d) (hK : -149 ≤ K) : FP.Core.encode FP.Core.b32 d ≤ 2139095040 ∧ (FP.Core.encode FP.Core.b32 d : Int) < (K + 151) * 8388608 := by
  cases d with
  | nan => exact h.elim
  | inf s =>
    obtain ⟨rfl, h2⟩ := h
    unfold FP.Core.encode FP.Core.assemble
    rw [b32_tails, b32_exps]
    refine ⟨by decide, ?_⟩
    show (((false.toNat * 256 + (256 - 1)) * 8388608 + 0 : Nat) : Int) < _
    simp only [Bool.toNat_false]
    omega
  | fin s c q =>
    obtain ⟨rfl, h2, h3, h4, h5⟩ := h
    unfold FP.Core.encode FP.Core.assemble
    rw [b32_tails, b32_exps, b32_qmin]
    simp only [Bool.toNat_false]
    by_cases hc : c < 8388608
    · rw [if_pos hc]
      omega
    · rw [if_neg hc]
      have e : (q - -149).toNat = (q + 149).toNat := by rw [Int.sub_neg]
      rw [e]
      omega
theorem fPos_settle {c : Nat} {q K : Int} (h1 : -149 ≤ q) (hK : q ≤ K) : fPos (max (K + 1) 105) (FP.Core.settle FP.Core.b32 false c q) ∧ (K ≤ 103 → fPos (K + 1) (FP.Core.settle FP.Core.b32 false c q)) := by
  unfold FP.Core.settle FP.Core.bound
  rw [b32_p, b32_tails, b32_qmax]
  by_cases hc : c < 16777216
  · rw [if_pos hc]
    by_cases hq : q ≤ 104
    · rw [if_pos hq]
      exact ⟨⟨rfl, hc, h1, hq, by omega⟩, fun hk => ⟨rfl, hc, h1, hq, by omega⟩⟩
    · rw [if_neg hq]
      exact ⟨⟨rfl, by omega⟩, fun hk => by omega⟩
  · rw [if_neg hc]
    by_cases hq : q + 1 ≤ 104
    · rw [if_pos hq]
      exact ⟨⟨rfl, by omega, by omega, hq, by omega⟩, fun hk => ⟨rfl, by omega, by omega, hq, by omega⟩⟩
    · rw [if_neg hq]
      exact ⟨⟨rfl, by omega⟩, fun hk => by omega⟩
theorem fPos_rat {A B : Nat} {e K : Int} (hK : -149 ≤ K) (h : A ≠ 0 → FP.Core.quantum FP.Core.b32 A B e ≤ K) : fPos (max (K + 1) 105) (FP.Core.roundRatio FP.Core.b32 false A B e) ∧ (K ≤ 103 → fPos (K + 1) (FP.Core.roundRatio FP.Core.b32 false A B e)) := by
  unfold FP.Core.roundRatio
  by_cases h0 : A = 0
  · rw [if_pos h0, b32_qmin]
    exact ⟨⟨rfl, by omega, by omega, by omega, by omega⟩, fun hk => ⟨rfl, by omega, by omega, by omega, by omega⟩⟩
  · rw [if_neg h0]
    unfold FP.Core.roundAt
    have hq : -149 ≤ FP.Core.quantum FP.Core.b32 A B e := by
      unfold FP.Core.quantum
      rw [b32_qmin]
      omega
    exact fPos_settle hq (h h0)
theorem leading_le {A B : Nat} : FP.Core.leading A B ≤ (A.log2 : Int) - (B.log2 : Int) := by
  unfold FP.Core.leading
  dsimp only
  split <;> omega
theorem quantum_le {A B : Nat} {e K : Int} (h1 : -149 ≤ K) (h2 : (A.log2 : Int) - (B.log2 : Int) + e - 23 ≤ K) : FP.Core.quantum FP.Core.b32 A B e ≤ K := by
  have h := leading_le (A := A) (B := B)
  unfold FP.Core.quantum
  rw [b32_qmin, show ((FP.Core.b32.p : Int) - 1) = 23 from by decide]
  omega
theorem log2_le {A k : Nat} (h0 : A ≠ 0) (h : A < 2 ^ (k + 1)) : A.log2 ≤ k := by
  have := (Nat.log2_lt h0).mpr h
  omega
/-- the exact product of what isn't below 0, rounded -/
theorem fPos_mul {x y : FP.Core.Datum} {K L : Int} (hx : fPos K x) (hy : fPos L y) (hn : FP.Core.exactProduct x y ≠ .nan) : fPos (max (K + L + 25) 105) (FP.Core.round FP.Core.b32 (FP.Core.exactProduct x y)) ∧ (K ≤ 104 → L ≤ 104 → -173 ≤ K + L → K + L + 24 ≤ 103 → fPos (K + L + 25) (FP.Core.round FP.Core.b32 (FP.Core.exactProduct x y))) := by
  cases x with
  | nan => exact hx.elim
  | inf s =>
    obtain ⟨rfl, hx2⟩ := hx
    cases y with
    | nan => exact hy.elim
    | inf t =>
      obtain ⟨rfl, hy2⟩ := hy
      exact ⟨⟨rfl, by omega⟩, fun _ _ _ _ => by omega⟩
    | fin t c q =>
      obtain ⟨rfl, hy2⟩ := hy
      have ep : FP.Core.exactProduct (.inf false) (.fin false c q) = if c = 0 then .nan else .inf false := rfl
      rw [ep] at hn ⊢
      by_cases hc : c = 0
      · rw [if_pos hc] at hn; exact absurd rfl hn
      · rw [if_neg hc]
        exact ⟨⟨rfl, by omega⟩, fun _ _ _ _ => by omega⟩
  | fin s c q =>
    obtain ⟨rfl, hc, hq1, hq2, hq3⟩ := hx
    cases y with
    | nan => exact hy.elim
    | inf t =>
      obtain ⟨rfl, hy2⟩ := hy
      have ep : FP.Core.exactProduct (.fin false c q) (.inf false) = if c = 0 then .nan else .inf false := rfl
      rw [ep] at hn ⊢
      by_cases hc0 : c = 0
      · rw [if_pos hc0] at hn; exact absurd rfl hn
      · rw [if_neg hc0]
        exact ⟨⟨rfl, by omega⟩, fun _ _ _ _ => by omega⟩
    | fin t d r =>
      obtain ⟨rfl, hd, hr1, hr2, hr3⟩ := hy
      have hcd : c * d < 2 ^ (47 + 1) := by
        have h1 : c * d ≤ 16777215 * 16777215 := Nat.mul_le_mul (by omega) (by omega)
        exact Nat.lt_of_le_of_lt h1 (by decide)
      have hl : c * d ≠ 0 → (c * d).log2 ≤ 47 := fun h0 => log2_le h0 hcd
      have e1 : (Nat.log2 1 : Int) = 0 := by decide
      have h := fPos_rat (A := c * d) (B := 1) (e := q + r) (K := max (-149) (q + r + 24)) (by omega) (fun h0 => quantum_le (by omega) (by have := hl h0; omega))
      show fPos _ (FP.Core.roundRatio FP.Core.b32 false (c * d) 1 (q + r)) ∧ (_ → _ → _ → _ → fPos _ (FP.Core.roundRatio FP.Core.b32 false (c * d) 1 (q + r)))
      exact ⟨h.1.mono (by omega), fun _ _ h3 h4 => (h.2 (by omega)).mono (by omega)⟩
/-- .. the quotient by 100 -/
theorem dec100 : FP.Core.decode FP.Core.b32 1120403456 = .fin false 13107200 (-17) := by decide +kernel
theorem fPos_div {x : FP.Core.Datum} {K : Int} (hx : fPos K x) : fPos (max (K - 5) 105) (FP.Core.quotient FP.Core.b32 x (.fin false 13107200 (-17))) ∧ (K ≤ 104 → -143 ≤ K → fPos (K - 5) (FP.Core.quotient FP.Core.b32 x (.fin false 13107200 (-17)))) := by
  cases x with
  | nan => exact hx.elim
  | inf s =>
    obtain ⟨rfl, hx2⟩ := hx
    exact ⟨⟨rfl, by omega⟩, fun _ _ => by omega⟩
  | fin s c q =>
    obtain ⟨rfl, hc, hq1, hq2, hq3⟩ := hx
    have hl : c ≠ 0 → c.log2 ≤ 23 := fun h0 => log2_le h0 (show c < 16777216 from hc)
    have e1 : (Nat.log2 13107200 : Int) = 23 := by decide +kernel
    have h := fPos_rat (A := c) (B := 13107200) (e := q - -17) (K := max (-149) (q - 6)) (by omega) (fun h0 => quantum_le (by omega) (by have := hl h0; omega))
    show fPos _ (FP.Core.roundRatio FP.Core.b32 false c 13107200 (q - -17)) ∧ (_ → _ → fPos _ (FP.Core.roundRatio FP.Core.b32 false c 13107200 (q - -17)))
    exact ⟨h.1.mono (by omega), fun h3 h4 => (h.2 (by omega)).mono (by omega)⟩
/-- the bits of a float that isn't below 0, nor a NaN; its exponent's field at most M -/
def fB (M : Nat) (v : UInt32) : Prop := v.toNat ≤ 2139095040 ∧ v.toNat < (M + 1) * 8388608
theorem fB.dec {M : Nat} {v : UInt32} (h : fB M v) (h1 : 1 ≤ M) : fPos ((M : Int) - 150) (FP.Core.decode FP.Core.b32 v.toNat) := fPos_dec h.1 h.2 h1
theorem fB_of {M : Nat} {d : FP.Core.Datum} (h : fPos ((M : Int) - 150) d) (h1 : 1 ≤ M) : fB M (UInt32.ofNat (FP.Core.encode FP.Core.b32 d)) := by
  obtain ⟨h2, h3⟩ := fPos_enc h (by omega)
  have e : (UInt32.ofNat (FP.Core.encode FP.Core.b32 d)).toNat = FP.Core.encode FP.Core.b32 d := by
    rw [UInt32.toNat_ofNat']
    exact Nat.mod_eq_of_lt (by omega)
  refine ⟨by rw [e]; exact h2, ?_⟩
  rw [e]
  omega
theorem fB.n32 {M : Nat} {v : UInt32} (h : fB M v) : vf_n32 v := by
  unfold vf_n32
  rw [UInt32.le_iff_toNat_le, UInt32.toNat_and]
  show v.toNat &&& 2147483647 ≤ 2139095040
  have h2 : v.toNat &&& 2147483647 ≤ v.toNat := Nat.and_le_left
  have := h.1
  omega
theorem fB.mono {M L : Nat} {v : UInt32} (h : fB M v) (hL : M ≤ L) : fB L v := ⟨h.1, Nat.lt_of_lt_of_le h.2 (Nat.mul_le_mul_right _ (Nat.succ_le_succ hL))⟩
/-- a burden's step -/
theorem fB_i2f {k : Nat} (hk : k ≤ 1000) : fB 137 (FP.i2f (nI k)) := by
  unfold FP.i2f FP.Core.i2f FP.Core.fromInt
  rw [nI_toInt (Nat.lt_of_le_of_lt hk (by decide))]
  refine fB_of ?_ (by decide)
  unfold FP.Core.ofInt
  rw [show decide ((k : Int) < 0) = false from decide_eq_false (by omega)]
  have hq : k ≠ 0 → FP.Core.quantum FP.Core.b32 k 1 0 ≤ (-14 : Int) := fun h0 => by
    have hl : k.log2 ≤ 9 := log2_le h0 (Nat.lt_of_le_of_lt hk (by decide))
    have e1 : ((Nat.log2 1 : Nat) : Int) = 0 := by decide
    refine quantum_le (by decide) ?_
    rw [e1]
    omega
  have h := (fPos_rat (A := k) (B := 1) (e := 0) (K := (-14 : Int)) (by decide) hq).2 (by decide)
  show fPos _ (FP.Core.roundRatio FP.Core.b32 false k 1 0)
  exact h.mono (by decide)
theorem fPos.fin {K : Int} {d : FP.Core.Datum} (h : fPos K d) (hK : K ≤ 104) : ∃ c q, d = .fin false c q := by
  cases d with
  | nan => exact h.elim
  | inf s => have := h.2; omega
  | fin s c q => obtain ⟨rfl, -⟩ := h; exact ⟨c, q, rfl⟩
theorem fB_mul {M L : Nat} {v w : UInt32} (hv : fB M v) (hw : fB L w) (hM : 1 ≤ M) (hL : 1 ≤ L) (hM2 : M ≤ 254) (hL2 : L ≤ 254) (h1 : 127 ≤ M + L) (h2 : M + L ≤ 379) : fB (M + L - 125) (FP.fmul v w) := by
  show fB _ (UInt32.ofNat (FP.Core.encode FP.Core.b32 (FP.Core.round FP.Core.b32 (FP.Core.exactProduct (FP.Core.decode FP.Core.b32 v.toNat) (FP.Core.decode FP.Core.b32 w.toNat)))))
  refine fB_of ?_ (by omega)
  have a := hv.dec hM
  have b := hw.dec hL
  have hn : FP.Core.exactProduct (FP.Core.decode FP.Core.b32 v.toNat) (FP.Core.decode FP.Core.b32 w.toNat) ≠ .nan := by
    obtain ⟨c, q, e1⟩ := a.fin (by omega)
    obtain ⟨d, r, e2⟩ := b.fin (by omega)
    rw [e1, e2]
    intro h
    cases h
  exact ((fPos_mul a b hn).2 (by omega) (by omega) (by omega) (by omega)).mono (by omega)
theorem fB_div {M : Nat} {v : UInt32} (hv : fB M v) (hM : 7 ≤ M) (hM2 : M ≤ 254) : fB (M - 5) (FP.fdiv v 1120403456) := by
  show fB _ (UInt32.ofNat (FP.Core.encode FP.Core.b32 (FP.Core.quotient FP.Core.b32 (FP.Core.decode FP.Core.b32 v.toNat) (FP.Core.decode FP.Core.b32 1120403456))))
  rw [dec100]
  refine fB_of ?_ (by omega)
  exact ((fPos_div (hv.dec (by omega))).2 (by omega) (by omega)).mono (by omega)
