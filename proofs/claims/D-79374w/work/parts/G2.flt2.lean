/-! FLOATS 2: rows scaled, comparing, sums -/
set_option maxRecDepth 100000
theorem fin_c {n c : Nat} {s : Bool} {q : Int} (h0 : n ≠ 0) (hn : n < 2147483648) (h : FP.Core.decode FP.Core.b32 n = .fin s c q) : c ≠ 0 := by
  unfold FP.Core.decode FP.Core.fieldE FP.Core.fieldT at h
  rw [b32_tails, b32_exps] at h
  by_cases h2 : n / 8388608 % 256 = 256 - 1
  · rw [if_pos h2] at h
    split at h <;> cases h
  · rw [if_neg h2] at h
    by_cases h3 : n / 8388608 % 256 = 0
    · rw [if_pos h3] at h
      injection h with h4 h5 h6
      omega
    · rw [if_neg h3] at h
      injection h with h4 h5 h6
      omega
theorem settle_n0 {c : Nat} {q : Int} (hc : c ≠ 0) (h1 : -149 ≤ q) (h2 : q ≤ 100) : FP.Core.encode FP.Core.b32 (FP.Core.settle FP.Core.b32 false c q) ≠ 0 := by
  unfold FP.Core.settle FP.Core.bound
  rw [b32_p, b32_tails, b32_qmax]
  by_cases hc2 : c < 16777216
  · rw [if_pos hc2, if_pos (by omega)]
    unfold FP.Core.encode FP.Core.assemble
    dsimp only
    rw [b32_tails, b32_exps]
    simp only [Bool.toNat_false]
    by_cases h3 : c < 8388608
    · rw [if_pos h3]; omega
    · rw [if_neg h3]; omega
  · rw [if_neg hc2, if_pos (by omega)]
    unfold FP.Core.encode FP.Core.assemble
    dsimp only
    rw [b32_tails, b32_exps]
    simp only [Bool.toNat_false]
    rw [if_neg (by omega)]
    omega
theorem nearest_1 {A : Nat} : FP.Core.nearest A 1 = A := by
  unfold FP.Core.nearest
  rw [Nat.mod_one, if_pos (by decide), Nat.div_one]
theorem i2f_n0 {k : Nat} (h0 : k ≠ 0) (hk : k ≤ 1000) : (FP.i2f (nI k)).toNat ≠ 0 := by
  have hB := (fB_i2f hk).1
  unfold FP.i2f FP.Core.i2f FP.Core.fromInt at hB ⊢
  rw [nI_toInt (Nat.lt_of_le_of_lt hk (by decide))] at hB ⊢
  unfold FP.Core.ofInt at hB ⊢
  rw [show decide ((k : Int) < 0) = false from decide_eq_false (by omega)] at hB ⊢
  have e9 : ∀ d, FP.Core.encode FP.Core.b32 d ≤ 2139095040 → (UInt32.ofNat (FP.Core.encode FP.Core.b32 d)).toNat = FP.Core.encode FP.Core.b32 d := fun d hd => by
    rw [UInt32.toNat_ofNat']
    exact Nat.mod_eq_of_lt (by omega)
  have hp := (fPos_rat (A := k) (B := 1) (e := 0) (K := (-14 : Int)) (by decide) (fun h0 => by
    have hl : k.log2 ≤ 9 := log2_le h0 (Nat.lt_of_le_of_lt hk (by decide))
    have e1 : ((Nat.log2 1 : Nat) : Int) = 0 := by decide
    refine quantum_le (by decide) ?_
    rw [e1]
    omega)).2 (by decide)
  have he := fPos_enc hp (by decide)
  show (UInt32.ofNat (FP.Core.encode FP.Core.b32 (FP.Core.roundRatio FP.Core.b32 false k 1 0))).toNat ≠ 0
  rw [e9 _ he.1]
  unfold FP.Core.roundRatio
  rw [if_neg h0]
  unfold FP.Core.roundAt
  have hq1 : -149 ≤ FP.Core.quantum FP.Core.b32 k 1 0 := by
    unfold FP.Core.quantum
    rw [b32_qmin]
    omega
  have hq2 : FP.Core.quantum FP.Core.b32 k 1 0 ≤ (-14 : Int) := by
    have hl : k.log2 ≤ 9 := log2_le h0 (Nat.lt_of_le_of_lt hk (by decide))
    have e1 : ((Nat.log2 1 : Nat) : Int) = 0 := by decide
    refine quantum_le (by decide) ?_
    rw [e1]
    omega
  refine settle_n0 ?_ hq1 (by omega)
  unfold FP.Core.unitsDen FP.Core.unitsNum
  rw [show (FP.Core.quantum FP.Core.b32 k 1 0 - 0).toNat = 0 from by omega, Nat.pow_zero, Nat.mul_one, nearest_1]
  exact Nat.ne_of_gt (Nat.mul_pos (by omega) (Nat.pow_pos (by decide)))
/-- the bits of a float that isn't below 0, nor a NaN -/
def fZ (v : UInt32) : Prop := v.toNat ≤ 2139095040
theorem fZ.b {v : UInt32} (h : fZ v) : fB 255 v := ⟨h, Nat.lt_of_le_of_lt h (by decide)⟩
theorem fZ.dec {v : UInt32} (h : fZ v) : fPos 105 (FP.Core.decode FP.Core.b32 v.toNat) := h.b.dec (by decide)
theorem fZ.n32 {v : UInt32} (h : fZ v) : vf_n32 v := h.b.n32
theorem fZ_of {d : FP.Core.Datum} (h : fPos 105 d) : fZ (UInt32.ofNat (FP.Core.encode FP.Core.b32 d)) := (fB_of (M := 255) h (by decide)).1
theorem fZ.inf {v : UInt32} (h : fZ v) (hi : v = 2139095040) : FP.Core.decode FP.Core.b32 v.toNat = .inf false := by
  subst hi
  decide +kernel
theorem fZ.fin {v : UInt32} (h : fZ v) (hi : v ≠ 2139095040) : ∃ c q, FP.Core.decode FP.Core.b32 v.toNat = .fin false c q ∧ c < 16777216 ∧ -149 ≤ q ∧ q ≤ 104 := by
  have hv : v.toNat ≠ 2139095040 := fun e => hi (UInt32.toNat_inj.mp e)
  have hb : fB 254 v := ⟨h, by
    have : v.toNat ≤ 2139095040 := h
    omega⟩
  have hd := hb.dec (by decide)
  obtain ⟨c, q, e⟩ := hd.fin (by decide)
  rw [e] at hd
  exact ⟨c, q, e, hd.2.1, hd.2.2.1, hd.2.2.2.1⟩
theorem fPos.top {K : Int} {d : FP.Core.Datum} (h : fPos K d) : fPos 105 d := by
  cases d with
  | nan => exact h
  | inf s => exact ⟨h.1, by decide⟩
  | fin s c q => exact ⟨h.1, h.2.1, h.2.2.1, h.2.2.2.1, by have := h.2.2.2.1; omega⟩
theorem fZ_mul {v : UInt32} {k : Nat} (hv : fZ v) (hk : k ≤ 1000) (hn : ¬ (v = 2139095040 ∧ k = 0)) : fZ (FP.fmul v (FP.i2f (nI k))) := by
  have hi := fB_i2f hk
  have a := hv.dec
  have b := hi.dec (by decide)
  have hp : FP.Core.exactProduct (FP.Core.decode FP.Core.b32 v.toNat) (FP.Core.decode FP.Core.b32 (FP.i2f (nI k)).toNat) ≠ .nan := by
    obtain ⟨d, r, e2⟩ := b.fin (by decide)
    by_cases hv2 : v = 2139095040
    · rw [hv.inf hv2, e2]
      have hd : d ≠ 0 := fin_c (i2f_n0 (fun h => hn ⟨hv2, h⟩) hk) (Nat.lt_of_le_of_lt hi.1 (by decide)) e2
      have ep : FP.Core.exactProduct (.inf false) (.fin false d r) = if d = 0 then .nan else .inf false := rfl
      rw [ep, if_neg hd]
      intro h
      cases h
    · obtain ⟨c, q, e1, -⟩ := hv.fin hv2
      rw [e1, e2]
      intro h
      cases h
  have h := (fPos_mul a b hp).1
  exact fZ_of h.top
theorem fZ_div {v : UInt32} (hv : fZ v) : fZ (FP.fdiv v 1120403456) := by
  have h := (fPos_div hv.dec).1
  rw [← dec100] at h
  exact fZ_of (h.mono (by decide))
/-- comparing -/
theorem cmp_nan : FP.fcmp 2143289344 2143289344 = none := by decide +kernel
theorem cmp_self {v : UInt32} (h : fZ v) : FP.fcmp v v = some .eq := by
  show FP.Core.order (FP.Core.decode FP.Core.b32 v.toNat) (FP.Core.decode FP.Core.b32 v.toNat) = some .eq
  have hc : ∀ a : Int, compare a a = .eq := fun a => by
    show compareOfLessAndEq a a = .eq
    unfold compareOfLessAndEq
    rw [if_neg (by omega), if_pos rfl]
  by_cases hi : v = 2139095040
  · rw [h.inf hi]
    exact congrArg some (hc _)
  · obtain ⟨c, q, e, -⟩ := h.fin hi
    rw [e]
    exact congrArg some (hc _)
theorem dec_max : FP.Core.decode FP.Core.b32 2139095039 = .fin false 16777215 104 := by decide +kernel
theorem dec_inf : FP.Core.decode FP.Core.b32 2139095040 = .inf false := by decide +kernel
theorem cmp_max1 : FP.fcmp 2139095040 2139095039 = some .gt := by decide +kernel
theorem cmp_max0 {v : UInt32} (h : fZ v) (hi : v ≠ 2139095040) : FP.fcmp v 2139095039 ≠ some .gt := by
  obtain ⟨c, q, e, hc, hq1, hq2⟩ := h.fin hi
  show FP.Core.order (FP.Core.decode FP.Core.b32 v.toNat) (FP.Core.decode FP.Core.b32 2139095039) ≠ some .gt
  rw [e, dec_max]
  show some (compare (FP.Core.signed false (FP.Core.inUnits c q (min q 104))) (FP.Core.signed false (FP.Core.inUnits 16777215 104 (min q 104)))) ≠ some .gt
  rw [show min q 104 = q from by omega]
  unfold FP.Core.inUnits FP.Core.signed
  rw [show (q - q).toNat = 0 from by omega, Nat.pow_zero, Nat.mul_one]
  have hp : 1 ≤ 2 ^ (104 - q).toNat := Nat.pow_pos (by decide)
  have hle : c ≤ 16777215 * 2 ^ (104 - q).toNat := Nat.le_trans (show c ≤ 16777215 * 1 from by omega) (Nat.mul_le_mul_left _ hp)
  intro h9
  injection h9 with h9
  simp only [Bool.false_eq_true, if_false] at h9
  have h10 : compareOfLessAndEq (c : Int) ((16777215 * 2 ^ (104 - q).toNat : Nat) : Int) = .gt := h9
  unfold compareOfLessAndEq at h10
  split at h10
  · cases h10
  · split at h10
    · cases h10
    · omega
theorem cmp_inf1 : FP.fcmp 2139095040 2139095040 = some .eq := by decide +kernel
theorem cmp_inf0 {v : UInt32} (h : fZ v) (hi : v ≠ 2139095040) : FP.fcmp v 2139095040 = some .lt := by
  obtain ⟨c, q, e, -⟩ := h.fin hi
  show FP.Core.order (FP.Core.decode FP.Core.b32 v.toNat) (FP.Core.decode FP.Core.b32 2139095040) = some .lt
  rw [e, dec_inf]
  rfl
/-! doubles -/
theorem b64_tails : FP.Core.b64.tails = 4503599627370496 := by decide
theorem b64_exps : FP.Core.b64.exps = 2048 := by decide
theorem b64_p : 2 ^ FP.Core.b64.p = 9007199254740992 := by decide
theorem b64_qmin : FP.Core.b64.qmin = -1074 := by decide
theorem b64_qmax : FP.Core.b64.qmax = 971 := by decide
def dPos (d : FP.Core.Datum) : Prop := match d with
  | .nan => False
  | .inf s => s = false
  | .fin s c q => s = false ∧ c < 9007199254740992 ∧ -1074 ≤ q ∧ q ≤ 971
/-- the bits of a double that isn't below 0, nor a NaN -/
def dZ (v : UInt64) : Prop := v.toNat ≤ 9218868437227405312
theorem dZ.n64 {v : UInt64} (h : dZ v) : vf_n64 v := by
  unfold vf_n64
  rw [UInt64.le_iff_toNat_le, UInt64.toNat_and]
  show v.toNat &&& 9223372036854775807 ≤ 9218868437227405312
  have h2 : v.toNat &&& 9223372036854775807 ≤ v.toNat := Nat.and_le_left
  exact Nat.le_trans h2 h
theorem dZ.dec {v : UInt64} (h : dZ v) : dPos (FP.Core.decode FP.Core.b64 v.toNat) := by
  have h : v.toNat ≤ 9218868437227405312 := h
  unfold FP.Core.decode FP.Core.fieldE FP.Core.fieldT FP.Core.fieldS
  rw [b64_tails, b64_exps, b64_qmin]
  have hE : v.toNat / 4503599627370496 % 2048 = v.toNat / 4503599627370496 := Nat.mod_eq_of_lt (by omega)
  have hS : (v.toNat / 4503599627370496 / 2048 % 2 == 1) = false := by
    rw [Nat.div_eq_of_lt (by omega)]; rfl
  rw [hE, hS]
  by_cases h2 : v.toNat / 4503599627370496 = 2048 - 1
  · rw [if_pos h2, if_pos (by omega)]
    rfl
  · rw [if_neg h2]
    by_cases h3 : v.toNat / 4503599627370496 = 0
    · rw [if_pos h3]
      exact ⟨rfl, by omega, by omega, by omega⟩
    · rw [if_neg h3]
      exact ⟨rfl, by omega, by omega, by omega⟩
theorem dZ_of {d : FP.Core.Datum} (h : dPos d) : dZ (UInt64.ofNat (FP.Core.encode FP.Core.b64 d)) := by
  have he : FP.Core.encode FP.Core.b64 d ≤ 9218868437227405312 := by
    cases d with
    | nan => exact h.elim
    | inf s =>
      have h : s = false := h
      subst h
      unfold FP.Core.encode FP.Core.assemble
      rw [b64_tails, b64_exps]
      decide
    | fin s c q =>
      obtain ⟨rfl, h2, h3, h4⟩ := h
      unfold FP.Core.encode FP.Core.assemble
      rw [b64_tails, b64_exps, b64_qmin]
      simp only [Bool.toNat_false]
      by_cases hc : c < 4503599627370496
      · rw [if_pos hc]
        omega
      · rw [if_neg hc]
        have e : (q - -1074).toNat = (q + 1074).toNat := by rw [Int.sub_neg]
        rw [e]
        omega
  unfold dZ
  rw [UInt64.toNat_ofNat']
  exact Nat.le_trans (Nat.mod_le _ _) he
theorem dPos_rat {A B : Nat} {e : Int} : dPos (FP.Core.roundRatio FP.Core.b64 false A B e) := by
  unfold FP.Core.roundRatio
  by_cases h0 : A = 0
  · rw [if_pos h0, b64_qmin]
    exact ⟨rfl, by decide, by decide, by decide⟩
  · rw [if_neg h0]
    unfold FP.Core.roundAt
    have hq : -1074 ≤ FP.Core.quantum FP.Core.b64 A B e := by
      unfold FP.Core.quantum
      rw [b64_qmin]
      omega
    unfold FP.Core.settle FP.Core.bound
    rw [b64_p, b64_tails, b64_qmax]
    split
    · rename_i hc
      split
      · rename_i hq2
        exact ⟨rfl, hc, hq, hq2⟩
      · rfl
    · split
      · rename_i hq2
        exact ⟨rfl, by decide, by omega, hq2⟩
      · rfl
theorem f2d_Z {v : UInt32} (h : fZ v) : dZ (FP.f2d v) := by
  have hd := h.dec
  have hn : FP.Core.fIsNaN v = false := by
    unfold FP.Core.fIsNaN FP.Core.isNaN
    refine decide_eq_false (fun e => ?_)
    rw [e] at hd
    exact hd
  unfold FP.f2d
  rw [hn]
  show dZ (UInt64.ofNat (FP.Core.encode FP.Core.b64 (FP.Core.round FP.Core.b64 (FP.Core.decode FP.Core.b32 v.toNat))))
  refine dZ_of ?_
  by_cases hi : v = 2139095040
  · rw [h.inf hi]
    rfl
  · obtain ⟨c, q, e, -⟩ := h.fin hi
    rw [e]
    exact dPos_rat
theorem dadd_Z {a b : UInt64} (ha : dZ a) (hb : dZ b) : dZ (FP.dadd a b) := by
  show dZ (UInt64.ofNat (FP.Core.encode FP.Core.b64 (FP.Core.round FP.Core.b64 (FP.Core.exactSum (FP.Core.decode FP.Core.b64 a.toNat) (FP.Core.decode FP.Core.b64 b.toNat)))))
  refine dZ_of ?_
  have h1 := ha.dec
  have h2 := hb.dec
  generalize FP.Core.decode FP.Core.b64 a.toNat = x at h1
  generalize FP.Core.decode FP.Core.b64 b.toNat = y at h2
  cases x with
  | nan => exact h1.elim
  | inf s =>
    have h1 : s = false := h1
    subst h1
    cases y with
    | nan => exact h2.elim
    | inf t =>
      have h2 : t = false := h2
      subst h2
      rfl
    | fin t c q => rfl
  | fin s c q =>
    obtain ⟨rfl, -⟩ := h1
    cases y with
    | nan => exact h2.elim
    | inf t =>
      have h2 : t = false := h2
      subst h2
      rfl
    | fin t d r =>
      obtain ⟨rfl, -⟩ := h2
      have hs : FP.Core.sumSign false false (FP.Core.sumUnits false c q false d r (min q r)) = false := by
        have h0 : 0 ≤ FP.Core.sumUnits false c q false d r (min q r) := by
          unfold FP.Core.sumUnits FP.Core.signed
          simp only [Bool.false_eq_true, if_false]
          omega
        unfold FP.Core.sumSign
        split
        · rfl
        · exact decide_eq_false (by omega)
      show dPos (FP.Core.roundRatio FP.Core.b64 (FP.Core.sumSign false false (FP.Core.sumUnits false c q false d r (min q r))) (FP.Core.sumUnits false c q false d r (min q r)).natAbs 1 (min q r))
      rw [hs]
      exact dPos_rat
theorem dZ_0 : dZ FP.dconst0 := by unfold dZ; decide
