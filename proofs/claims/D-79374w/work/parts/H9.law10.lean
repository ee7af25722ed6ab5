/-! LAW 10: reading -/
set_option maxRecDepth 100000
section E
variable {n p x : Nat} {ch : Nat → Nat} {e o : Option Nat} {s f l : Nat} {T : List xT3}
theorem hIs_b {c : Nat} (h : hIs n ch p c = true) : p < n := (of_decide_eq_true h).1
theorem er_eq {α : Type} {a b : Nat} (h : (Except.error a : Except Nat α) = .error b) : b = a := by injection h with h; exact h.symm
theorem rEn_e {D : xDf} (h : rEn n p D = .error x) (hp : p ≤ n) : x ≤ n := by
  unfold rEn at h
  by_cases h1 : p = n
  · rw [if_pos h1] at h
    cases h
  · rw [if_neg h1] at h
    have := er_eq h
    omega
theorem rRk_e (h : rRk n ch p e o s T f l = .error x) (hp : p ≤ n) : x ≤ n := by
  unfold rRk at h
  by_cases h1 : hIs n ch p 33 = true
  · rw [if_pos h1] at h
    have q1 := hIs_b h1
    by_cases h2 : hIn n ch (p + 1) 48 57 = true
    · rw [if_pos h2] at h
      have q2 := (hIn_b h2).1
      exact rEn_e h (by omega)
    · rw [if_neg h2] at h
      have := er_eq h
      omega
  · rw [if_neg h1] at h
    exact rEn_e h hp
theorem rLa_e (h : rLa n ch p e o s T f = .error x) (hp : p ≤ n) : x ≤ n := by
  unfold rLa at h
  by_cases h1 : hIs n ch p 45 = true
  · rw [if_pos h1] at h
    have q1 := hIs_b h1
    by_cases h2 : hIn n ch (p + 1) 48 57 = true
    · rw [if_pos h2] at h
      have q2 := (hIn_b h2).1
      exact rRk_e h (rNs_le 2 _ _ (by omega)).2
    · rw [if_neg h2] at h
      have := er_eq h
      omega
  · rw [if_neg h1] at h
    have := er_eq h
    omega
theorem rDy_e (h : rDy n ch p e o s T = .error x) (hp : p ≤ n) : x ≤ n := by
  unfold rDy at h
  by_cases h1 : hIs n ch p 64 = true
  · rw [if_pos h1] at h
    have q1 := hIs_b h1
    by_cases h2 : hIn n ch (p + 1) 48 57 = true
    · rw [if_pos h2] at h
      have q2 := (hIn_b h2).1
      exact rLa_e h (rNs_le 2 _ _ (by omega)).2
    · rw [if_neg h2] at h
      have := er_eq h
      omega
  · rw [if_neg h1] at h
    exact rRk_e h hp
theorem rMo_e : ∀ (k p : Nat) (T : List xT3), rMo n ch k p T = .error x → p ≤ n → x ≤ n
  | 0, p, T, h, hp => by
    unfold rMo at h
    have := er_eq h
    omega
  | k + 1, p, T, h, hp => by
    unfold rMo at h
    by_cases h1 : hIs n ch p 44 = true
    · rw [if_pos h1] at h
      have q1 := hIs_b h1
      cases ht : rTo n ch (p + 1) with
      | ok t =>
        rw [ht] at h
        have := rTo_lt ht
        exact rMo_e k (p + 4) _ h (by omega)
      | error y =>
        rw [ht] at h
        have := er_eq h
        have := rTo_el ht (by omega)
        omega
    · rw [if_neg h1] at h
      by_cases h2 : hIs n ch p 41 = true
      · rw [if_pos h2] at h
        cases h
      · rw [if_neg h2] at h
        have := er_eq h
        omega
theorem rTs_e (h : rTs n ch p = .error x) (hp : p ≤ n) : x ≤ n := by
  unfold rTs at h
  by_cases h1 : hIs n ch p 40 = true
  · rw [if_pos h1] at h
    have q1 := hIs_b h1
    by_cases h2 : hIs n ch (p + 1) 41 = true
    · rw [if_pos h2] at h
      cases h
    · rw [if_neg h2] at h
      cases ht : rTo n ch (p + 1) with
      | ok t =>
        rw [ht] at h
        have := rTo_lt ht
        exact rMo_e _ (p + 4) _ h (by omega)
      | error y =>
        rw [ht] at h
        have := er_eq h
        have := rTo_el ht (by omega)
        omega
  · rw [if_neg h1] at h
    have := er_eq h
    omega
theorem rSc_e (h : rSc n ch p e o = .error x) (hp : p ≤ n) : x ≤ n := by
  unfold rSc at h
  by_cases h1 : hIn n ch p 48 57 = true
  · rw [if_pos h1] at h
    have q1 := (hIn_b h1).1
    cases ht : rTs n ch (p + 1) with
    | ok t =>
      obtain ⟨t, q⟩ := t
      rw [ht] at h
      exact rDy_e h (rTs_ok ht).2.2
    | error y =>
      rw [ht] at h
      have := er_eq h
      have := rTs_e ht (by omega)
      omega
  · rw [if_neg h1] at h
    have := er_eq h
    omega
theorem rHd_e (h : rHd n ch p = .error x) (hp : p ≤ n) : x ≤ n := by
  unfold rHd at h
  by_cases h1 : hIs n ch p 120 = true
  · rw [if_pos h1] at h
    have q1 := hIs_b h1
    by_cases h2 : hIn n ch (p + 1) 48 57 = true
    · rw [if_pos h2] at h
      have q2 := (hIn_b h2).1
      have q3 := (rNs_le (ch := ch) 2 (ch (p + 1) - 48) (p + 1 + 1) (show p + 1 + 1 ≤ n by omega)).2
      by_cases h3 : hIs n ch (rNs n ch 2 (ch (p + 1) - 48) (p + 1 + 1)).2 58 = true
      · rw [if_pos h3] at h
        cases h
      · rw [if_neg h3] at h
        have := er_eq h
        omega
    · rw [if_neg h2] at h
      have := er_eq h
      omega
  · rw [if_neg h1] at h
    by_cases h2 : hIs n ch p 112 = true
    · rw [if_pos h2] at h
      cases h
    · rw [if_neg h2] at h
      by_cases h3 : hIs n ch p 102 = true
      · rw [if_pos h3] at h
        cases h
      · rw [if_neg h3] at h
        by_cases h4 : hIs n ch p 108 = true
        · rw [if_pos h4] at h
          cases h
        · rw [if_neg h4] at h
          have := er_eq h
          omega
theorem rHd_q {r : (Option Nat × Option Nat) × Nat} (h : rHd n ch p = .ok r) : r.2 ≤ n := by
  unfold rHd at h
  by_cases h1 : hIs n ch p 120 = true
  · rw [if_pos h1] at h
    by_cases h2 : hIn n ch (p + 1) 48 57 = true
    · rw [if_pos h2] at h
      by_cases h3 : hIs n ch (rNs n ch 2 (ch (p + 1) - 48) (p + 1 + 1)).2 58 = true
      · rw [if_pos h3] at h
        have := hIs_b h3
        injection h with h
        rw [← h]
        show (rNs n ch 2 (ch (p + 1) - 48) (p + 1 + 1)).2 + 1 ≤ n
        omega
      · rw [if_neg h3] at h
        cases h
    · rw [if_neg h2] at h
      cases h
  · rw [if_neg h1] at h
    by_cases h2 : hIs n ch p 112 = true
    · rw [if_pos h2] at h
      have := hIs_b h2
      injection h with h
      rw [← h]
      show p + 1 ≤ n
      omega
    · rw [if_neg h2] at h
      by_cases h3 : hIs n ch p 102 = true
      · rw [if_pos h3] at h
        have := hIs_b h3
        injection h with h
        rw [← h]
        show p + 1 ≤ n
        omega
      · rw [if_neg h3] at h
        by_cases h4 : hIs n ch p 108 = true
        · rw [if_pos h4] at h
          have := hIs_b h4
          injection h with h
          rw [← h]
          show p + 1 ≤ n
          omega
        · rw [if_neg h4] at h
          cases h
theorem rAll_e (h : rAll n ch = .error x) : x ≤ n := by
  unfold rAll at h
  cases ht : rHd n ch 0 with
  | ok r =>
    obtain ⟨⟨e, o⟩, q⟩ := r
    rw [ht] at h
    exact rSc_e h (rHd_q ht)
  | error y =>
    rw [ht] at h
    have := er_eq h
    have := rHd_e ht (Nat.zero_le _)
    omega
end E
theorem allK_cg {P Q : Nat → Bool} : ∀ n, (∀ k, k < n → P k = Q k) → allK P n = allK Q n
  | 0, _ => rfl
  | n + 1, h => by
    unfold allK
    rw [allK_cg n (fun k hk => h k (by omega)), h n (by omega)]
theorem mTs_u {U : xMS} {T : List xT3} (h : mTs U T) : ∀ i, i < 3 * T.length → U 5 i = uT T i := fun i hi => by
  have hj := h.2 (i / 3) (by omega)
  have hm : i % 3 = 0 ∨ i % 3 = 1 ∨ i % 3 = 2 := by omega
  unfold uT
  rcases hm with hm | hm | hm
  · rw [if_pos hm, ← hj.1]
    congr 1
    omega
  · rw [if_neg (by omega), if_pos hm, ← hj.2.1]
    congr 1
    omega
  · rw [if_neg (by omega), if_neg (by omega), ← hj.2.2]
    congr 1
    omega
theorem FA0_u {U : xMS} {T : List xT3} (h : ∀ i, i < 3 * T.length → U 5 i = uT T i) : FA0 U T.length = fun f v => allK (fun k => tOK (uT T) (3 * k) f v) T.length := by
  funext f v
  unfold FA0
  refine allK_cg _ (fun k hk => ?_)
  unfold tM tOK aN
  rw [h (3 * k) (by omega), h (3 * k + 1) (by omega), h (3 * k + 2) (by omega)]
/-- what's read and kept -/
def rdC (S : xMS) (q rr : Nat) (e o : Option Nat) (s f l k : Nat) (T : List xT3) : xMS := fun p i => if p = 1 then tsUp (ruUp (S 1) rr (effV e) (ofV o) (nI s) (nI k) (nI f) (nI l)) rr 0 (uT T) T.length i else if p = 0 ∧ i = 22 then nI 0 else push S q p i
theorem rdC_q {S : xMS} {q rr a : Nat} {e o : Option Nat} {s f l k : Nat} {T : List xT3} (h0 : a ≠ 0) (h1 : a ≠ 1) : rdC S q rr e o s f l k T a = push S q a := by
  funext i
  unfold rdC
  rw [if_neg h1, if_neg (fun h => h0 h.1)]
theorem rdC_0 {S : xMS} {q rr j : Nat} {e o : Option Nat} {s f l k : Nat} {T : List xT3} (hj : j ≠ 22) : rdC S q rr e o s f l k T 0 j = push S q 0 j := by
  unfold rdC
  rw [if_neg (by decide), if_neg (fun h => hj h.2)]
theorem rdC_ag {S U : xMS} {q rr : Nat} {e o : Option Nat} {s f l k : Nat} {T : List xT3} {w : Int32} (hr : rr < 16) (hK : mKp S U) (h22 : U 0 22 = nI 0) (hT : ∀ i, i < 3 * T.length → U 5 i = uT T i) : xAg2 (rdC S q rr e o s f l k T) (putT (putR (push (mset (mset U 0 6 (nI 0)) 0 9 w) q) rr (effV e) (ofV o) (nI s) (nI k) (nI f) (nI l)) rr 0 T.length) := by
  obtain ⟨hU, hj⟩ := hK
  have hV : ∀ a, a ≠ 0 → a ≠ 5 → (mset (mset U 0 6 (nI 0)) 0 9 w) a = S a := fun a h0 h5 => by rw [mset_q h0, mset_q h0]; exact hU a h0 h5
  have hq : ∀ a, a ≠ 0 → a ≠ 1 → a ≠ 2 → a ≠ 4 → a ≠ 5 → putT (putR (push (mset (mset U 0 6 (nI 0)) 0 9 w) q) rr (effV e) (ofV o) (nI s) (nI k) (nI f) (nI l)) rr 0 T.length a = rdC S q rr e o s f l k T a := fun a h0 h1 h2 h4 h5 => by
    rw [putT_q h1, putR_q h1, push_q h0 h4 h2, hV a h0 h5, rdC_q h0 h1, push_q h0 h4 h2]
  have h0 : ∀ j, j ≠ 6 → j ≠ 9 → j ≠ 11 → (j < 23 ∨ j = 25 ∨ 31 < j) → putT (putR (push (mset (mset U 0 6 (nI 0)) 0 9 w) q) rr (effV e) (ofV o) (nI s) (nI k) (nI f) (nI l)) rr 0 T.length 0 j = rdC S q rr e o s f l k T 0 j := fun j h6 h9 h11 hb => by
    rw [putT_q (by decide), putR_0, push_0]
    by_cases e22 : j = 22
    · subst e22
      rw [if_neg (by decide)]
      exact h22
    · rw [rdC_0 e22, push_0]
      by_cases e5 : j = 5
      · rw [if_pos e5, if_pos e5]
      · rw [if_neg e5, if_neg e5, ← hj j h11 e22 hb]
        show (if 0 = 0 ∧ j = 9 then _ else if 0 = 0 ∧ j = 6 then _ else _) = _
        rw [if_neg (fun h => h9 h.2), if_neg (fun h => h6 h.2)]
  refine ⟨⟨?_, hq 3 (by decide) (by decide) (by decide) (by decide) (by decide), ?_⟩, ⟨hq 9 (by decide) (by decide) (by decide) (by decide) (by decide), hq 10 (by decide) (by decide) (by decide) (by decide) (by decide), hq 11 (by decide) (by decide) (by decide) (by decide) (by decide), hq 12 (by decide) (by decide) (by decide) (by decide) (by decide), hq 13 (by decide) (by decide) (by decide) (by decide) (by decide)⟩, ⟨h0 3 (by decide) (by decide) (by decide) (by decide), h0 5 (by decide) (by decide) (by decide) (by decide), h0 14 (by decide) (by decide) (by decide) (by decide)⟩, h0 7 (by decide) (by decide) (by decide) (by decide), h0 8 (by decide) (by decide) (by decide) (by decide), h0 17 (by decide) (by decide) (by decide) (by decide), h0 22 (by decide) (by decide) (by decide) (by decide), h0 25 (by decide) (by decide) (by decide) (by decide), h0 33 (by decide) (by decide) (by decide) (by decide)⟩
  · funext j
    rw [putT_1 (putR_7 hr)]
    have e1 : putR (push (mset (mset U 0 6 (nI 0)) 0 9 w) q) rr (effV e) (ofV o) (nI s) (nI k) (nI f) (nI l) 1 = ruUp (S 1) rr (effV e) (ofV o) (nI s) (nI k) (nI f) (nI l) := by
      funext i
      rw [putR_1, push_1, hV 1 (by decide) (by decide)]
    rw [e1, putR_q (by decide), push_q (by decide) (by decide) (by decide)]
    exact ts_u1 hT
  · rw [putT_q (by decide), putR_q (by decide), rdC_q (by decide) (by decide)]
    exact push_cg (hV 1 (by decide) (by decide)) (hV 2 (by decide) (by decide)) (hV 4 (by decide) (by decide))
/-- refused while reading -/
def rdR (S : xMS) (v : Nat × Int32) : xMS := mset (rS S v) 0 22 (nI 0)
theorem rdR_ag {S U X : xMS} {v : Nat × Int32} (hK : mKp S U) (h22 : U 0 22 = nI 0) (h1 : ∀ a, a ≠ 0 → X a = U a) (h0 : ∀ j, j ≠ 6 → j ≠ 9 → X 0 j = U 0 j) : xAg2 (rdR S v) (mRef X 2 v.1 v.2) := by
  obtain ⟨hU, hj⟩ := hK
  have hq : ∀ a, a ≠ 0 → a ≠ 5 → X a = S a := fun a ha h5 => (h1 a ha).trans (hU a ha h5)
  have hz : ∀ j, j ≠ 6 → j ≠ 9 → j ≠ 11 → j ≠ 22 → (j < 23 ∨ j = 25 ∨ 31 < j) → X 0 j = S 0 j := fun j h6 h9 h11 h22 hb => (h0 j h6 h9).trans (hj j h11 h22 hb)
  exact ⟨⟨hq 1 (by decide) (by decide), hq 3 (by decide) (by decide), hq 4 (by decide) (by decide)⟩, ⟨hq 9 (by decide) (by decide), hq 10 (by decide) (by decide), hq 11 (by decide) (by decide), hq 12 (by decide) (by decide), hq 13 (by decide) (by decide)⟩, ⟨hz 3 (by decide) (by decide) (by decide) (by decide) (by decide), hz 5 (by decide) (by decide) (by decide) (by decide) (by decide), hz 14 (by decide) (by decide) (by decide) (by decide) (by decide)⟩, rfl, rfl, hz 17 (by decide) (by decide) (by decide) (by decide) (by decide), (h0 22 (by decide) (by decide)).trans h22, hz 25 (by decide) (by decide) (by decide) (by decide) (by decide), hz 33 (by decide) (by decide) (by decide) (by decide) (by decide)⟩
def xX69 (U X : xMS) : Prop := (∀ a, a ≠ 0 → X a = U a) ∧ ∀ j, j ≠ 6 → j ≠ 9 → X 0 j = U 0 j
theorem xX69.a {U : xMS} {v : Int32} : xX69 U (mset U 0 6 v) := ⟨fun a h => mset_q h, fun j h6 _ => if_neg (fun h => h6 h.2)⟩
theorem xX69.b {U : xMS} {v w : Int32} : xX69 U (mset (mset U 0 6 v) 0 9 w) := ⟨fun a h => by rw [mset_q h, mset_q h], fun j h6 h9 => (if_neg (fun h => h9 h.2)).trans (if_neg (fun h => h6 h.2))⟩
section O
variable {S U : xMS} {n rr p : Nat} {e o : Option Nat} {s f l k : Nat} {T : List xT3}
theorem rd_no {o : Option Nat} {rr : Nat} (ho : ∀ v, o = some v → v < rr) : ¬ (match (generalizing := false) o with | none => false | some q => decide (rr ≤ q)) = true := by
  cases o with
  | none => exact Bool.false_ne_true
  | some v =>
    have := ho v rfl
    simp
    omega
theorem opRd_B (hU : U 1 = S 1) (n0 : 0 < n) (hn : n ≤ 10) (hs : s < 1000) (hb : (wBb (S 1) n rr o s f l).1 ≠ 0) : ∃ X, opRd U n rr p (e, o, s, T, f, l, k) = (nI 0, mRef X 2 (wBb (S 1) n rr o s f l).1 (wBb (S 1) n rr o s f l).2) ∧ xX69 U X := by
  by_cases ho : ∀ v, o = some v → v < rr
  · by_cases hsn : s < n
    · rw [wBb_H ho (inR_k (by omega) hsn)] at hb ⊢
      refine ⟨mset (mset U 0 6 (nI 0)) 0 9 (hindD (S 1) rr o s f l).2, ?_, xX69.b⟩
      unfold opRd
      refine (if_neg (rd_no ho)).trans ?_
      rw [if_neg (by omega), hU, if_pos hb]
    · rw [wBb_S ho (inR_ge hsn hs (by omega))]
      refine ⟨mset U 0 6 (nI 0), ?_, xX69.a⟩
      unfold opRd
      refine (if_neg (rd_no ho)).trans ?_
      rw [if_pos (by omega)]
  · have hex : ∃ v, o = some v ∧ ¬ v < rr := by
      cases o with
      | none => exact absurd (fun v h => by cases h) ho
      | some v => exact ⟨v, rfl, fun h => ho (fun v2 h2 => by cases h2; exact h)⟩
    obtain ⟨v, rfl, hv⟩ := hex
    rw [wBb_P hv]
    refine ⟨mset U 0 6 (nI 0), ?_, xX69.a⟩
    unfold opRd
    simp only
    rw [if_pos (by simp; omega)]
    rfl
theorem opRd_c (hU : U 1 = S 1) (n0 : 0 < n) (hn : n ≤ 10) (hs : s < 1000) (hb : (wBb (S 1) n rr o s f l).1 = 0) : opRd U n rr p (e, o, s, T, f, l, k) = if (hindT (FA0 U T.length) T.length).1 ≠ 0 then (nI 0, mRef (mset (mset U 0 6 (nI 0)) 0 9 (hindT (FA0 U T.length) T.length).2) 2 (hindT (FA0 U T.length) T.length).1 (hindT (FA0 U T.length) T.length).2)
    else (nI rr, putT (putR (push (mset (mset U 0 6 (nI 0)) 0 9 (hindT (FA0 U T.length) T.length).2) p) rr (effV e) (ofV o) (nI s) (nI k) (nI f) (nI l)) rr 0 T.length) := by
  obtain ⟨ho, hsn, hd⟩ := wBb_0 hs n0 (by omega) hb
  unfold opRd
  refine (if_neg (rd_no ho)).trans ?_
  rw [if_neg (by omega), hU, if_neg (fun h => h hd)]
end O
section R
variable {g : xG} {x p lk fa ka la n rr ww dq da hh : Nat} {Z : xAd} {S : xMS} {ps : List Nat} {sv : Option Nat}
theorem xSTp.rdr (hp : xSTp g x S p lk fa ka la Z n rr ww dq da hh ps sv) {M : xM} {as : List Value} {v : Nat × Int32} {tb : Nat} {ch : Nat → Nat} (r8 : xr g x 8 = some tb) (h : ∀ d, XM M (d + 90) as g (xRdR g x tb p rr ch v)) : ∀ d, XM M (d + 90) as g (xErr 26 (jE g x (rdR S v))) := fun d => (h d).mono (fun rs g' ⟨q, e1, e2, e3, i4, i5, i6, r, hB', F⟩ _ => by
  have p0 := hp.M.P.p0
  have r16 := hp.M.P.wf.r16
  have nn : ∀ o, o ≠ 1 → o ≠ 5 → o ≠ 11 → o ≠ 14 → o ≠ 15 → o < 1000 → ¬ oRf p rr o := fun o h1 h2 h3 h4 h5 h6 h7 => by unfold oRf at h7; omega
  have hl : lk < xsz g := xlt (by rw [hp.M.B.lt]; decide)
  have hT := hp.Ot
  have hB := hp.M.B.fr F (fun j _ => F.r' hl (by rw [hp.M.B.lko]; exact nn 6 (by decide) (by decide) (by decide) (by decide) (by decide) (by decide)))
  have hP := hp.M.P.frN F (fun h => by unfold oRf at h; omega) (fun h => by unfold oRf at h; omega) (fun h => by unfold oRf at h; omega) (fun h => by unfold oRf at h; omega) (fun r hr h => by unfold oRf at h; omega) (fun h => by unfold oRf at h; omega)
  refine ⟨q, e1, e2, e3, (hp.gen (S' := rdR S v) F (nn 0 (by decide) (by decide) (by decide) (by decide) (by decide) (by decide)) (nn 2 (by decide) (by decide) (by decide) (by decide) (by decide) (by decide)) (nn 7 (by decide) (by decide) (by decide) (by decide) (by decide) (by decide)) (fun o ho => by unfold oRf at ho; unfold oP; omega) (fun j _ => r j) hP hB rfl rfl rfl rfl rfl ⟨⟨i4, i5⟩, ot_sh hT F (r 6) (nn 2 (by decide) (by decide) (by decide) (by decide) (by decide) (by decide)) (nn 8 (by decide) (by decide) (by decide) (by decide) (by decide) (by decide)) rfl rfl, ot_rw hT F (r 7) (nn 10 (by decide) (by decide) (by decide) (by decide) (by decide) (by decide)) (nn 16 (by decide) (by decide) (by decide) (by decide) (by decide) (by decide)) rfl rfl, ⟨tb, 0, ch, (r 8).trans r8, hB', Nat.zero_le _, rfl, fun j hj => absurd hj (Nat.not_lt_zero j)⟩, ⟨(i6 9 (by decide) (by decide)).trans hT.2.2.2.2.1.1, hT.2.2.2.2.1.2⟩, ot_ex hT F (r 10) (nn 12 (by decide) (by decide) (by decide) (by decide) (by decide) (by decide)) rfl rfl⟩).st, F.sub (fun o ho => ?_) (Nat.le_refl _)⟩
  unfold oRf at ho
  unfold oC
  omega)
end R
theorem J_read {g : xG} {x : Nat} {S : xMS} (h : xST g x S) (hK : xKs g) : jOp Value.int M_X1_read M_X6_read [(22, 1), (26, 2)] [] g x S := by
  obtain ⟨p, lk, fa, ka, la, Z, n, rr, ww, dq, da, hh, ps, sv, hp⟩ := h.p
  have hM := hp.M
  have W := hM.P.wf
  have n10 := W.n10
  have r16 := W.r16
  have h0 := W.s0
  have h1 := W.s1
  have p8 := hp.Pa.2.2.2.1
  have hpm := hp.Pa.2.2.1
  have hPa : xr g x 2 = some dq ∧ xAD g 7 dq da hh ps ∧ True ∧ ps.length ≤ 8 := ⟨hp.Pa.1, hp.Pa.2.1, trivial, p8⟩
  have p0 := hM.P.p0
  have pl := hM.P.lt
  have hx := hp.xl
  have hlk : lk < xsz g := xlt (by rw [hM.B.lt]; decide)
  have hT := hp.Ot
  obtain ⟨tb, ln, ch, r8, hB, hln, h22, hch⟩ := hT.2.2.2.1
  have qr : ∀ (d : Nat) (g1 : xG) (m : Nat), xMod g1 m → xKs g1 → XM M_X6_read (d + 90) [.ref m] (xWith g1 m S) (xRead g1 m S n rr ps.length (rAll ln ch)) := fun d g1 m hm hK1 => SP_X6_read (d := d + 83) hm hK1.2.2.1 h22 hln hch n rr ps.length W.n0 n10 r16 p8 h0 h1 hpm W.o W.p W.sc
  cases hA : rAll ln ch with
  | error f =>
    have hf := rAll_e hA
    simp only [hA] at qr
    refine .inr ⟨22, 1, nI 0, mset (mset S 0 22 (nI 0)) 0 25 (nI f), by decide, fun d => (SP_X1_read_E (d := d + 9) hM r8 hB hln hK.2.2.1 hA).mono (fun rs g' ⟨q, e1, e2, e3, i9, iO, r, hB', F⟩ _ => ⟨q, e1, e2, e3, ?_, F.sub (fun o ho => by unfold oC; omega) (by omega)⟩), fun d g1 m hm h3 hK1 => (qr d g1 m hm hK1).mono (fun rs g' hx' _ => ?_)⟩
    · have nn : ∀ o, o ≠ 1 → o ≠ 11 → o ≠ 14 → o ≠ 15 → ¬ (fun o => o = 1 ∨ o = 11 ∨ o = 14 ∨ o = 15) o := fun o h1 h2 h3 h4 h5 => by
        rcases h5 with h5 | h5 | h5 | h5 <;> omega
      have hP := hM.P.fr F (fun o h1 h2 => by unfold oP at h1; omega) (nn 2 (by decide) (by decide) (by decide) (by decide))
      have hLb := hM.B.fr F (fun j _ => F.r' hlk (by rw [hM.B.lko]; exact nn 6 (by decide) (by decide) (by decide) (by decide)))
      exact (hp.gen (S' := mset (mset S 0 22 (nI 0)) 0 25 (nI f)) F (nn 0 (by decide) (by decide) (by decide) (by decide)) (nn 2 (by decide) (by decide) (by decide) (by decide)) (nn 7 (by decide) (by decide) (by decide) (by decide)) (fun o ho => by omega) (fun j _ => r j) hP hLb rfl rfl rfl rfl rfl ⟨⟨(iO 4 (by decide)).trans hT.1.1, (iO 5 (by decide)).trans hT.1.2⟩, ot_sh hT F (r 6) (nn 2 (by decide) (by decide) (by decide) (by decide)) (nn 8 (by decide) (by decide) (by decide) (by decide)) rfl rfl, ot_rw hT F (r 7) (nn 10 (by decide) (by decide) (by decide) (by decide)) (nn 16 (by decide) (by decide) (by decide) (by decide)) rfl rfl, ⟨tb, 0, ch, (r 8).trans r8, hB', Nat.zero_le _, rfl, fun j hj => absurd hj (Nat.not_lt_zero j)⟩, ⟨i9, Or.inr ⟨f, by omega, rfl⟩⟩, ot_ex hT F (r 10) (nn 12 (by decide) (by decide) (by decide) (by decide)) rfl rfl⟩).st
    · obtain ⟨e1, U, ⟨hU, hj, h6, u22, u25⟩, e2⟩ := hx'
      exact ⟨e1, g1, U, e2, ⟨⟨hU 1 (by decide) (by decide), hU 3 (by decide) (by decide), hU 4 (by decide) (by decide)⟩, ⟨hU 9 (by decide) (by decide), hU 10 (by decide) (by decide), hU 11 (by decide) (by decide), hU 12 (by decide) (by decide), hU 13 (by decide) (by decide)⟩, ⟨hj 3 (by decide) (by decide) (by decide) (by decide), hj 5 (by decide) (by decide) (by decide) (by decide), hj 14 (by decide) (by decide) (by decide) (by decide)⟩, hj 7 (by decide) (by decide) (by decide) (by decide), hj 8 (by decide) (by decide) (by decide) (by decide), hj 17 (by decide) (by decide) (by decide) (by decide), u22, u25, hj 33 (by decide) (by decide) (by decide) (by decide)⟩, h6, hm, h3, xFr.rf⟩
  | ok D =>
    have hd := rAll_ok hln hA
    obtain ⟨e, o, s, T, f, l, k⟩ := D
    obtain ⟨heo, hs, hf, hl, hk, hT4, hTok⟩ := hd
    have hs3 : s < 1000 := by omega
    simp only [hA] at qr
    by_cases hb : (wBb (S 1) n rr o s f l).1 = 0
    · by_cases hv : (hindT (fun f v => allK (fun k => tOK (uT T) (3 * k) f v) T.length) T.length).1 = 0
      · obtain ⟨ho, hsn, hdd⟩ := wBb_0 hs3 W.n0 (by omega) hb
        have hrr := hindD_rr2 r16 hdd
        refine .inl ⟨nI rr, rdC S ps.length rr e o s f l k T, fun d => (SP_X1_read (d := d + 9) hM hPa r8 hB hln hK.2.2.1 hA hb hv).mono (fun rs g' ⟨e1, Z', h', b, c1, c2, c3, c4, c5, F⟩ _ => ?_), fun d g1 m hm h3 hK1 => (qr d g1 m hm hK1).mono (fun rs g' hx' _ => ?_)⟩
        · have nn : ∀ o, o ≠ 5 → o ≠ 7 → o ≠ 11 → o ≠ 14 → o ≠ 15 → o < 1000 → ¬ oRr p (xsz g) o := fun o h1 h2 h3 h4 h5 h6 h7 => by unfold oRr oP at h7; omega
          have nx : ¬ oRr p (xsz g) (xown g x) := by rw [hM.ox]; exact nn 1 (by decide) (by decide) (by decide) (by decide) (by decide) (by decide)
          have q9 : ∀ a, a ≠ 0 → a ≠ 1 → a ≠ 2 → a ≠ 4 → rdC S ps.length rr e o s f l k T a = S a := fun a a0 a1 a2 a4 => by rw [rdC_q a0 a1, push_q a0 a4 a2]
          have q0 : ∀ j, j ≠ 22 → j ≠ 5 → rdC S ps.length rr e o s f l k T 0 j = S 0 j := fun j j22 j5 => by rw [rdC_0 j22, push_0, if_neg j5]
          refine ⟨e1, push2 hp F (nn 0 (by decide) (by decide) (by decide) (by decide) (by decide) (by decide)) (nn 1 (by decide) (by decide) (by decide) (by decide) (by decide) (by decide)) (nn 2 (by decide) (by decide) (by decide) (by decide) (by decide) (by decide)) (nn 6 (by decide) (by decide) (by decide) (by decide) (by decide) (by decide)) (fun o ho => by unfold oRr oP at ho; unfold oP; omega) (c1.cong (s' := rdC S ps.length rr e o s f l k T 1) (fun j hj => rfl)) c3 c2 c4 (q9 3 (by decide) (by decide) (by decide) (by decide)) (q0 3 (by decide) (by decide)) (fun k2 i hk2 hi => ?_) ?_ (q0 14 (by decide) (by decide)) ⟨⟨(F.i' hx nx).trans (hT.1.1.trans (q0 7 (by decide) (by decide)).symm), (F.i' hx nx).trans (hT.1.2.trans (q0 8 (by decide) (by decide)).symm)⟩, ot_sh hT F (F.r' hx nx) (nn 2 (by decide) (by decide) (by decide) (by decide) (by decide) (by decide)) (nn 8 (by decide) (by decide) (by decide) (by decide) (by decide) (by decide)) (q9 9 (by decide) (by decide) (by decide) (by decide)) (q0 17 (by decide) (by decide)), ot_rw hT F (F.r' hx nx) (nn 10 (by decide) (by decide) (by decide) (by decide) (by decide) (by decide)) (nn 16 (by decide) (by decide) (by decide) (by decide) (by decide) (by decide)) (q9 10 (by decide) (by decide) (by decide) (by decide)) (q9 11 (by decide) (by decide) (by decide) (by decide)), ⟨tb, 0, ch, (F.r' hx nx).trans r8, c5, Nat.zero_le _, rfl, fun j hj => absurd hj (Nat.not_lt_zero j)⟩, ⟨(F.i' hx nx).trans (hT.2.2.2.2.1.1.trans (q0 25 (by decide) (by decide)).symm), by rw [q0 25 (by decide) (by decide)]; exact hT.2.2.2.2.1.2⟩, ot_ex hT F (F.r' hx nx) (nn 12 (by decide) (by decide) (by decide) (by decide) (by decide) (by decide)) (q9 13 (by decide) (by decide) (by decide) (by decide)) (q0 33 (by decide) (by decide))⟩, F.sub (fun o ho => ?_) (Nat.le_refl _)⟩
          · rw [rdC_q (by decide) (by decide), push_4 p8 hi]
            unfold MiniP
            split
            · split
              · rfl
              · rw [if_pos (by omega)]
            · rfl
          · rw [rdC_0 (by decide), push_0, if_pos rfl]
          · unfold oRr oP at ho
            unfold oC
            omega
        · obtain ⟨U, ⟨hKp, u22, h26, h27, h28, h29, h30, h31, hTs⟩, e1, e2⟩ := hx'
          have hu := mTs_u hTs
          have hU1 : U 1 = S 1 := hKp.1 1 (by decide) (by decide)
          have ee := opRd_c (p := ps.length) (e := e) (k := k) (T := T) hU1 W.n0 n10 hs3 hb
          rw [FA0_u hu, if_neg (fun h => h hv)] at ee
          rw [ee] at e1 e2
          exact ⟨e1, g1, _, e2, rdC_ag hrr hKp u22 hu, by show putT _ _ _ _ 0 6 = nI 0; rw [putT_q (by decide), putR_0, push_0, if_neg (by decide)]; rfl, hm, h3, xFr.rf⟩
      · refine .inr ⟨26, 2, nI 0, rdR S (hindT (fun f v => allK (fun k => tOK (uT T) (3 * k) f v) T.length) T.length), by decide, hp.rdr r8 (fun d => SP_X1_read_R (d := d + 9) hM r8 hB hln hK.2.2.1 hA hb hv), fun d g1 m hm h3 hK1 => (qr d g1 m hm hK1).mono (fun rs g' hx' _ => ?_)⟩
        obtain ⟨U, ⟨hKp, u22, h26, h27, h28, h29, h30, h31, hTs⟩, e1, e2⟩ := hx'
        have hu := mTs_u hTs
        have hU1 : U 1 = S 1 := hKp.1 1 (by decide) (by decide)
        have ee := opRd_c (p := ps.length) (e := e) (k := k) (T := T) hU1 W.n0 n10 hs3 hb
        rw [FA0_u hu, if_pos hv] at ee
        rw [ee] at e1 e2
        exact ⟨e1, g1, _, e2, rdR_ag hKp u22 xX69.b.1 xX69.b.2, rfl, hm, h3, xFr.rf⟩
    · refine .inr ⟨26, 2, nI 0, rdR S (wBb (S 1) n rr o s f l), by decide, hp.rdr r8 (fun d => SP_X1_read_B (d := d + 9) hM r8 hB hln hK.2.2.1 hA hb), fun d g1 m hm h3 hK1 => (qr d g1 m hm hK1).mono (fun rs g' hx' _ => ?_)⟩
      obtain ⟨U, ⟨hKp, u22, h26, h27, h28, h29, h30, h31, hTs⟩, e1, e2⟩ := hx'
      have hU1 : U 1 = S 1 := hKp.1 1 (by decide) (by decide)
      obtain ⟨X, ee, hX1, hX0⟩ := opRd_B (p := ps.length) (e := e) (k := k) (T := T) hU1 W.n0 n10 hs3 hb
      rw [ee] at e1 e2
      exact ⟨e1, g1, _, e2, rdR_ag hKp u22 hX1 hX0, rfl, hm, h3, xFr.rf⟩
