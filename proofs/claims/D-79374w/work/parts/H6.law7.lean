/-! LAW 7: ops that ask -/
set_option maxRecDepth 100000
theorem rvK_s {P : Nat → Bool} {x : Int32} : ∀ (j r t : Nat), rvK P x j r (cntB P r) = some t → ∃ i, i < cntB P (r + j) ∧ x = nI i
  | 0, r, t, h => by cases h
  | j + 1, r, t, h => by
    unfold rvK at h
    by_cases hP : P r = true
    · rw [if_pos hP] at h
      by_cases hx : nI (cntB P r) = x
      · have h1 := cntB_mn (P := P) (show r + 1 ≤ r + (j + 1) by omega)
        rw [cntB_t hP] at h1
        exact ⟨cntB P r, by omega, hx.symm⟩
      · rw [if_neg hx, ← cntB_t hP] at h
        obtain ⟨i, hi, e⟩ := rvK_s j (r + 1) t h
        exact ⟨i, by rw [show r + (j + 1) = r + 1 + j by omega]; exact hi, e⟩
    · rw [if_neg hP] at h
      have e0 : cntB P (r + 1) = cntB P r := cntB_f (by simpa using hP)
      rw [← e0] at h
      obtain ⟨i, hi, e⟩ := rvK_s j (r + 1) t h
      exact ⟨i, by rw [show r + (j + 1) = r + 1 + j by omega]; exact hi, e⟩
theorem rvK_i {P : Nat → Bool} {i : Nat} : ∀ (j r : Nat), cntB P r ≤ i → i < cntB P (r + j) → ∃ t, rvK P (nI i) j r (cntB P r) = some t
  | 0, r, h1, h2 => by
    rw [Nat.add_zero] at h2
    omega
  | j + 1, r, h1, h2 => by
    unfold rvK
    rw [show r + (j + 1) = r + 1 + j by omega] at h2
    by_cases hP : P r = true
    · rw [if_pos hP]
      by_cases hx : nI (cntB P r) = nI i
      · exact ⟨r, if_pos hx⟩
      · rw [if_neg hx, ← cntB_t hP]
        have hne : cntB P r ≠ i := fun e => hx (by rw [e])
        exact rvK_i j (r + 1) (by rw [cntB_t hP]; omega) h2
    · rw [if_neg hP]
      have e0 : cntB P (r + 1) = cntB P r := cntB_f (by simpa using hP)
      rw [← e0]
      exact rvK_i j (r + 1) (by rw [e0]; exact h1) h2
theorem m1_neI {i : Nat} (h : i < 1000) : (-1 : Int32) ≠ nI i := fun e => by
  have q := nI_c (k := i) (by omega)
  rw [← e] at q
  have q0 : i = 0 := by rw [← q]; decide
  rw [q0] at e
  exact absurd e (by decide)
theorem nI_lt0 {i : Nat} (h : i < 1000) : ¬ nI i < 0 := fun e => by
  have h2 : (nI i).toInt = (i : Int) := nI_toInt (by omega)
  have h3 := Int32.lt_iff_toInt_lt.mp e
  rw [h2] at h3
  have h4 : (0 : Int32).toInt = 0 := by decide
  omega
theorem rvK_m1 {P : Nat → Bool} {rr : Nat} (hr : rr ≤ 16) : rvK P (-1) rr 0 0 = none := by
  cases hq : rvK P (-1) rr 0 0 with
  | none => rfl
  | some t =>
    obtain ⟨i, hi, e⟩ := rvK_s rr 0 t hq
    have := cntB_le P (0 + rr)
    exact absurd e (m1_neI (by omega))
theorem rvK_out {P : Nat → Bool} {rr : Nat} {x : Int32} (hr : rr ≤ 16) (h : ¬ inR x (-1) (nI (cntB P rr) - nI 1) = true) : rvK P x rr 0 0 = none := by
  cases hq : rvK P x rr 0 0 with
  | none => rfl
  | some t =>
    obtain ⟨i, hi, e⟩ := rvK_s rr 0 t hq
    rw [Nat.zero_add] at hi
    have := cntB_le P rr
    exact absurd (by rw [e]; exact inR_i (by omega) hi) h
theorem isCs0 {f : Int32} : isCs (nI 0) f = inR f (nI 0) (nI 999999) := by
  unfold isCs
  rw [show inR (nI 0) (nI 0) (nI 999) = true from by decide, Bool.true_and]
theorem wr1 {S : xMS} {n : Nat} {a b c : Int32} (h0 : S 1 0 = nI n) (h : ¬ inR a (nI 0) (nI n - nI 1) = true) : wrongC S a b c = 1 := by
  unfold wrongC
  rw [h0, if_pos (inR_f h)]
theorem wr2 {S : xMS} {n : Nat} {a b c : Int32} (h0 : S 1 0 = nI n) (h : inR a (nI 0) (nI n - nI 1) = true) (hc : ¬ isCs b c = true) : wrongC S a b c = 2 := by
  unfold wrongC
  rw [h0, if_neg (by rw [h]; decide), if_pos (by simpa using hc)]
/-- .. and the answer has a quality -/
def jOpP {α : Type} (P : α → Prop) (wr : α → Value) (Mc Mr : xM) (L : List (Nat × Nat)) (as : List Value) (g : xG) (x : Nat) (S : xMS) : Prop :=
  (∃ a S', P a ∧ (∀ d, XM Mc (d + 90) (.ref x :: as) g (xVal (wr a) (jE g x S'))) ∧ jM Mr as S (wr a) 0 S') ∨
  ∃ t c b S', (t, c) ∈ L ∧ (∀ d, XM Mc (d + 90) (.ref x :: as) g (xErr t (jE g x S'))) ∧ jM Mr as S (wr b) c S'

theorem J_scopeOf {g : xG} {x : Nat} {S : xMS} (h : xST g x S) (hK : xKs g) {v e : Int32} : jOp Value.int M_X1_scopeOf M_X6_scopeOf [(23, 1), (22, 2)] [.int v, .int e] g x S := by
  obtain ⟨p, lk, fa, ka, la, Z, n, rr, ww, dq, da, hh, ps, sv, hp⟩ := h.p
  have hM := hp.M
  have W := hM.P.wf
  have n10 := W.n10
  have r16 := W.r16
  have w12 := W.w12
  have h0 := W.s0
  have h1 := W.s1
  have h2 := W.s2
  have p8 := hp.Pa.2.2.2.1
  have hpm := hp.Pa.2.2.1
  have h14 := hp.1
  have hPa : xr g x 2 = some dq ∧ xAD g 7 dq da hh ps ∧ True ∧ ps.length ≤ 8 := ⟨hp.Pa.1, hp.Pa.2.1, trivial, p8⟩
  by_cases c1 : inR v (nI 0) (nI n - nI 1) = true
  · obtain ⟨k, hk, rfl⟩ := inR_ex (by omega) c1
    by_cases c2 : inR e (nI 0) (nI 4) = true
    · obtain ⟨w, hw, rfl⟩ := inR_nat (by decide) c2
      have hw5 : w = 0 ∨ w = 1 ∨ w = 2 ∨ w = 3 ∨ w = 4 := by omega
      rcases hw5 with rfl | rfl | rfl | rfl | rfl
      · by_cases hz : k = 0
        · exact .inl ⟨_, S, hp.one (fun d => SP_X1_scopeOf0Z (d := d + 10) hM hk hz), jM.one (fun d g1 m hm => by have z := SP_X6_scopeOf (d := d + 88) hm n n10 h0 rr r16 h1 W.o W.e4 k 0 hk (by decide); exact z) rfl (xAg2.m6)⟩
        · exact .inl ⟨_, S, hp.one (fun d => SP_X1_scopeOf0 (d := d + 10) hM hk hz), jM.one (fun d g1 m hm => by have z := SP_X6_scopeOf (d := d + 88) hm n n10 h0 rr r16 h1 W.o W.e4 k 0 hk (by decide); exact z) rfl (xAg2.m6)⟩
      · exact .inl ⟨_, S, hp.one (fun d => SP_X1_scopeOf1 (d := d + 10) hM hk), jM.one (fun d g1 m hm => by have z := SP_X6_scopeOf (d := d + 88) hm n n10 h0 rr r16 h1 W.o W.e4 k 1 hk (by decide); exact z) rfl (xAg2.m6)⟩
      · have e2 : S 1 (4 + 2 * k) = S 1 (3 + 2 * k + 1) := by rw [show 4 + 2 * k = 3 + 2 * k + 1 by omega]
        exact .inl ⟨S 1 (3 + 2 * k + 1), S, hp.one (fun d => by have z := SP_X1_scopeOf2 (d := d + 10) hM hk; rw [e2] at z; exact z), jM.one (fun d g1 m hm => by have z := SP_X6_scopeOf (d := d + 88) hm n n10 h0 rr r16 h1 W.o W.e4 k 2 hk (by decide); exact z) rfl (xAg2.m6)⟩
      · exact .inl ⟨_, S, hp.one (fun d => SP_X1_scopeOf3 (d := d + 10) hM hk), jM.one (fun d g1 m hm => by have z := SP_X6_scopeOf (d := d + 88) hm n n10 h0 rr r16 h1 W.o W.e4 k 3 hk (by decide); exact z) rfl (xAg2.m6)⟩
      · exact .inl ⟨_, S, hp.lb (N := 4) (by decide) (fun d => SP_X1_scopeOf4 (d := d + 10) hM hk), jM.one (fun d g1 m hm => by have z := SP_X6_scopeOf (d := d + 88) hm n n10 h0 rr r16 h1 W.o W.e4 k 4 hk (by decide); exact z) rfl (xAg2.m6)⟩
    · exact .inr ⟨22, 2, nI 0, S, by decide, hp.thr (fun d => SP_X1_scopeOf_F2 (d := d + 10) hM hk c2), jM.one (fun d g1 m hm => SP_X6_scopeOf_F2 (d := d + 88) hm n n10 h0 k hk e c2) rfl (xAg2.m6)⟩
  · exact .inr ⟨23, 1, nI 0, S, by decide, hp.thr (fun d => SP_X1_scopeOf_F (d := d + 10) hM c1), jM.one (fun d g1 m hm => SP_X6_scopeOf_F (d := d + 88) hm n n10 h0 v c1 e) rfl (xAg2.m6)⟩
theorem J_isWithin {g : xG} {x : Nat} {S : xMS} (h : xST g x S) (hK : xKs g) {v e : Int32} : jOp (fun b : Bool => Value.int (bI b)) M_X1_isWithin M_X6_isWithin [(23, 1)] [.int v, .int e] g x S := by
  obtain ⟨p, lk, fa, ka, la, Z, n, rr, ww, dq, da, hh, ps, sv, hp⟩ := h.p
  have hM := hp.M
  have W := hM.P.wf
  have n10 := W.n10
  have r16 := W.r16
  have w12 := W.w12
  have h0 := W.s0
  have h1 := W.s1
  have h2 := W.s2
  have p8 := hp.Pa.2.2.2.1
  have hpm := hp.Pa.2.2.1
  have h14 := hp.1
  have hPa : xr g x 2 = some dq ∧ xAD g 7 dq da hh ps ∧ True ∧ ps.length ≤ 8 := ⟨hp.Pa.1, hp.Pa.2.1, trivial, p8⟩
  by_cases c1 : inR v (nI 0) (nI n - nI 1) = true
  · obtain ⟨k, hk, rfl⟩ := inR_ex (by omega) c1
    by_cases c2 : inR e (nI 0) (nI n - nI 1) = true
    · obtain ⟨w, hw, rfl⟩ := inR_ex (by omega) c2
      exact .inl ⟨wit (S 1) k w, S, hp.one (fun d => SP_X1_isWithin (d := d + 10) hM hk hw), jM.one (fun d g1 m hm => SP_X6_isWithin (d := d + 88) hm n n10 h0 W.o k w hk hw) rfl (xAg2.m6)⟩
    · exact .inr ⟨23, 1, false, S, by decide, hp.thr (fun d => SP_X1_isWithin_F2 (d := d + 10) hM hk c2), jM.one (fun d g1 m hm => SP_X6_isWithin_F2 (d := d + 88) hm n n10 h0 k hk e c2) rfl (xAg2.m6)⟩
  · exact .inr ⟨23, 1, false, S, by decide, hp.thr (fun d => SP_X1_isWithin_F (d := d + 10) hM c1), jM.one (fun d g1 m hm => SP_X6_isWithin_F (d := d + 88) hm n n10 h0 v c1 e) rfl (xAg2.m6)⟩
theorem J_ruleOf {g : xG} {x : Nat} {S : xMS} (h : xST g x S) (hK : xKs g) {v e : Int32} : jOp Value.int M_X1_ruleOf M_X6_ruleOf [(23, 1), (22, 2)] [.int v, .int e] g x S := by
  obtain ⟨p, lk, fa, ka, la, Z, n, rr, ww, dq, da, hh, ps, sv, hp⟩ := h.p
  have hM := hp.M
  have W := hM.P.wf
  have n10 := W.n10
  have r16 := W.r16
  have w12 := W.w12
  have h0 := W.s0
  have h1 := W.s1
  have h2 := W.s2
  have p8 := hp.Pa.2.2.2.1
  have hpm := hp.Pa.2.2.1
  have h14 := hp.1
  have hPa : xr g x 2 = some dq ∧ xAD g 7 dq da hh ps ∧ True ∧ ps.length ≤ 8 := ⟨hp.Pa.1, hp.Pa.2.1, trivial, p8⟩
  by_cases c1 : inR v (nI 0) (nI rr - nI 1) = true
  · obtain ⟨r, hr, rfl⟩ := inR_ex (by omega) c1
    by_cases c2 : inR e (nI 0) (nI 9) = true
    · obtain ⟨w, hw, rfl⟩ := inR_nat (by decide) c2
      have hw5 : w = 0 ∨ w = 1 ∨ w = 2 ∨ w = 3 ∨ w = 4 ∨ w = 5 ∨ w = 6 ∨ w = 7 ∨ w = 8 ∨ w = 9 := by omega
      rcases hw5 with rfl | rfl | rfl | rfl | rfl | rfl | rfl | rfl | rfl | rfl
      · exact .inl ⟨_, S, hp.one (fun d => SP_X1_ruleOf0 (d := d + 10) hM hr), jM.one (fun d g1 m hm => by have z := SP_X6_ruleOf (d := d + 87) hm rr r16 h1 W.p r 0 hr (by decide); exact z) rfl (xAg2.m6)⟩
      · exact .inl ⟨_, S, hp.one (fun d => SP_X1_ruleOf1 (d := d + 10) hM hr), jM.one (fun d g1 m hm => by have z := SP_X6_ruleOf (d := d + 87) hm rr r16 h1 W.p r 1 hr (by decide); exact z) rfl (xAg2.m6)⟩
      · exact .inl ⟨_, S, hp.one (fun d => SP_X1_ruleOf2 (d := d + 10) hM hr), jM.one (fun d g1 m hm => by have z := SP_X6_ruleOf (d := d + 87) hm rr r16 h1 W.p r 2 hr (by decide); exact z) rfl (xAg2.m6)⟩
      · exact .inl ⟨_, S, hp.one (fun d => SP_X1_ruleOf3 (d := d + 10) hM hr), jM.one (fun d g1 m hm => by have z := SP_X6_ruleOf (d := d + 87) hm rr r16 h1 W.p r 3 hr (by decide); exact z) rfl (xAg2.m6)⟩
      · exact .inl ⟨_, S, hp.one (fun d => SP_X1_ruleOf4 (d := d + 10) hM hr), jM.one (fun d g1 m hm => by have z := SP_X6_ruleOf (d := d + 87) hm rr r16 h1 W.p r 4 hr (by decide); exact z) rfl (xAg2.m6)⟩
      · exact .inl ⟨_, S, hp.one (fun d => SP_X1_ruleOf5 (d := d + 10) hM hr), jM.one (fun d g1 m hm => by have z := SP_X6_ruleOf (d := d + 87) hm rr r16 h1 W.p r 5 hr (by decide); exact z) rfl (xAg2.m6)⟩
      · exact .inl ⟨_, S, hp.one (fun d => SP_X1_ruleOf6 (d := d + 10) hM hr), jM.one (fun d g1 m hm => by have z := SP_X6_ruleOf (d := d + 87) hm rr r16 h1 W.p r 6 hr (by decide); exact z) rfl (xAg2.m6)⟩
      · exact .inl ⟨_, S, hp.one (fun d => SP_X1_ruleOf7 (d := d + 10) hM hr), jM.one (fun d g1 m hm => by have z := SP_X6_ruleOf (d := d + 87) hm rr r16 h1 W.p r 7 hr (by decide); exact z) rfl (xAg2.m6)⟩
      · exact .inl ⟨_, S, hp.lb (N := 4) (by decide) (fun d => SP_X1_ruleOf8 (d := d + 10) hM hr), jM.one (fun d g1 m hm => by have z := SP_X6_ruleOf (d := d + 87) hm rr r16 h1 W.p r 8 hr (by decide); exact z) rfl (xAg2.m6)⟩
      · exact .inl ⟨_, S, hp.one (fun d => SP_X1_ruleOf9 (d := d + 10) hM hr), jM.one (fun d g1 m hm => by have z := SP_X6_ruleOf (d := d + 87) hm rr r16 h1 W.p r 9 hr (by decide); exact z) rfl (xAg2.m6)⟩
    · exact .inr ⟨22, 2, nI 0, S, by decide, hp.thr (fun d => SP_X1_ruleOf_F2 (d := d + 10) hM hr c2), jM.one (fun d g1 m hm => SP_X6_ruleOf_F2 (d := d + 88) hm rr r16 h1 r hr e c2) rfl (xAg2.m6)⟩
  · exact .inr ⟨23, 1, nI 0, S, by decide, hp.thr (fun d => SP_X1_ruleOf_F (d := d + 10) hM c1), jM.one (fun d g1 m hm => SP_X6_ruleOf_F (d := d + 88) hm rr r16 h1 v c1 e) rfl (xAg2.m6)⟩
theorem J_testOf {g : xG} {x : Nat} {S : xMS} (h : xST g x S) (hK : xKs g) {v e f : Int32} : jOp Value.int M_X1_testOf M_X6_testOf [(23, 1), (25, 2), (22, 3)] [.int v, .int e, .int f] g x S := by
  obtain ⟨p, lk, fa, ka, la, Z, n, rr, ww, dq, da, hh, ps, sv, hp⟩ := h.p
  have hM := hp.M
  have W := hM.P.wf
  have n10 := W.n10
  have r16 := W.r16
  have w12 := W.w12
  have h0 := W.s0
  have h1 := W.s1
  have h2 := W.s2
  have p8 := hp.Pa.2.2.2.1
  have hpm := hp.Pa.2.2.1
  have h14 := hp.1
  have hPa : xr g x 2 = some dq ∧ xAD g 7 dq da hh ps ∧ True ∧ ps.length ≤ 8 := ⟨hp.Pa.1, hp.Pa.2.1, trivial, p8⟩
  by_cases c1 : inR v (nI 0) (nI rr - nI 1) = true
  · obtain ⟨r, hr, rfl⟩ := inR_ex (by omega) c1
    obtain ⟨t7, t4, tW⟩ := wf_t7 hM hr
    by_cases c2 : inR e (nI 0) (nI (aT Z r).length - nI 1) = true
    · obtain ⟨j, hj, rfl⟩ := inR_ex (by omega) c2
      by_cases c3 : inR f (nI 0) (nI 2) = true
      · obtain ⟨w, hw, rfl⟩ := inR_nat (by decide) c3
        have hw5 : w = 0 ∨ w = 1 ∨ w = 2 := by omega
        rcases hw5 with rfl | rfl | rfl
        · exact .inl ⟨_, S, hp.one (fun d => SP_X1_testOf0 (d := d + 10) hM hr hj), jM.one (fun d g1 m hm => by have z := SP_X6_testOf (d := d + 88) hm rr r16 h1 r _ hr t4 t7 j 0 hj (by decide); exact z) rfl (xAg2.m6)⟩
        · exact .inl ⟨_, S, hp.one (fun d => SP_X1_testOf1 (d := d + 10) hM hr hj), jM.one (fun d g1 m hm => by have z := SP_X6_testOf (d := d + 88) hm rr r16 h1 r _ hr t4 t7 j 1 hj (by decide); exact z) rfl (xAg2.m6)⟩
        · exact .inl ⟨_, S, hp.one (fun d => SP_X1_testOf2 (d := d + 10) hM hr hj), jM.one (fun d g1 m hm => by have z := SP_X6_testOf (d := d + 88) hm rr r16 h1 r _ hr t4 t7 j 2 hj (by decide); exact z) rfl (xAg2.m6)⟩
      · exact .inr ⟨22, 3, nI 0, S, by decide, hp.thr (fun d => SP_X1_testOf_F3 (d := d + 10) hM hr hj c3), jM.one (fun d g1 m hm => SP_X6_testOf_F3 (d := d + 88) hm rr r16 h1 r _ hr t4 t7 (nI j) f c2 c3) rfl (xAg2.m6)⟩
    · exact .inr ⟨25, 2, nI 0, S, by decide, hp.thr (fun d => SP_X1_testOf_F2 (d := d + 10) hM hr c2), jM.one (fun d g1 m hm => SP_X6_testOf_F2 (d := d + 88) hm rr r16 h1 r _ hr t4 t7 e f c2) rfl (xAg2.m6)⟩
  · exact .inr ⟨23, 1, nI 0, S, by decide, hp.thr (fun d => SP_X1_testOf_F (d := d + 10) hM c1), jM.one (fun d g1 m hm => SP_X6_testOf_F (d := d + 88) hm rr r16 h1 v c1 e f) rfl (xAg2.m6)⟩
theorem J_covers {g : xG} {x : Nat} {S : xMS} (h : xST g x S) (hK : xKs g) {v sc day feats : Int32} : jOp (fun b : Bool => Value.int (bI b)) M_X1_covers M_X6_covers [(23, 1), (22, 2)] [.int v, .int sc, .int day, .int feats] g x S := by
  obtain ⟨p, lk, fa, ka, la, Z, n, rr, ww, dq, da, hh, ps, sv, hp⟩ := h.p
  have hM := hp.M
  have W := hM.P.wf
  have n10 := W.n10
  have r16 := W.r16
  have w12 := W.w12
  have h0 := W.s0
  have h1 := W.s1
  have h2 := W.s2
  have p8 := hp.Pa.2.2.2.1
  have hpm := hp.Pa.2.2.1
  have h14 := hp.1
  have hPa : xr g x 2 = some dq ∧ xAD g 7 dq da hh ps ∧ True ∧ ps.length ≤ 8 := ⟨hp.Pa.1, hp.Pa.2.1, trivial, p8⟩
  by_cases c1 : inR v (nI 0) (nI rr - nI 1) = true
  · obtain ⟨r, hr, rfl⟩ := inR_ex (by omega) c1
    by_cases c2 : inR sc (nI 0) (nI n - nI 1) = true
    · by_cases c3 : isCs day feats = true
      · obtain ⟨k, hk, rfl⟩ := inR_ex (by omega) c2
        exact .inl ⟨cov (S 1) (-1) k day feats r, S, hp.cs (fun d => SP_X1_covers (d := d + 19) hM hk c3 hr), jM.one (fun d g1 m hm => by have z := SP_X6_covers (d := d + 86) hm n rr k n10 h0 r16 hk h1 W.o W.r day feats c3 r hr; rw [h14] at z; exact z) rfl (xAg2.m6)⟩
      · have c3f : isCs day feats = false := by simpa using c3
        have ew := wr2 h0 c2 c3
        obtain ⟨k, hk, rfl⟩ := inR_ex (by omega) c2
        exact .inr ⟨22, 2, false, S, by decide, hp.thr (fun d => SP_X1_covers_W2 (d := d + 19) hM hr hk c3f), jM.one (fun d g1 m hm => SP_X6_covers_W (d := d + 86) hm rr r16 h1 r hr _ _ _ 2 (by decide) (by decide) ew) rfl (xAg2.m6)⟩
    · exact .inr ⟨23, 1, false, S, by decide, hp.thr (fun d => SP_X1_covers_W1 (d := d + 19) hM hr c2), jM.one (fun d g1 m hm => SP_X6_covers_W (d := d + 86) hm rr r16 h1 r hr _ _ _ 1 (by decide) (by decide) (wr1 h0 c2)) rfl (xAg2.m6)⟩
  · exact .inr ⟨23, 1, false, S, by decide, hp.thr (fun d => SP_X1_covers_F (d := d + 19) hM c1), jM.one (fun d g1 m hm => SP_X6_covers_F (d := d + 86) hm rr r16 h1 v c1 sc day feats) rfl (xAg2.m6)⟩
theorem J_holds {g : xG} {x : Nat} {S : xMS} (h : xST g x S) (hK : xKs g) {v sc day feats : Int32} : jOp (fun b : Bool => Value.int (bI b)) M_X1_holds M_X6_holds [(23, 1), (22, 2)] [.int v, .int sc, .int day, .int feats] g x S := by
  obtain ⟨p, lk, fa, ka, la, Z, n, rr, ww, dq, da, hh, ps, sv, hp⟩ := h.p
  have hM := hp.M
  have W := hM.P.wf
  have n10 := W.n10
  have r16 := W.r16
  have w12 := W.w12
  have h0 := W.s0
  have h1 := W.s1
  have h2 := W.s2
  have p8 := hp.Pa.2.2.2.1
  have hpm := hp.Pa.2.2.1
  have h14 := hp.1
  have hPa : xr g x 2 = some dq ∧ xAD g 7 dq da hh ps ∧ True ∧ ps.length ≤ 8 := ⟨hp.Pa.1, hp.Pa.2.1, trivial, p8⟩
  by_cases c1 : inR v (nI 0) (nI rr - nI 1) = true
  · obtain ⟨r, hr, rfl⟩ := inR_ex (by omega) c1
    by_cases c2 : inR sc (nI 0) (nI n - nI 1) = true
    · by_cases c3 : isCs day feats = true
      · obtain ⟨k, hk, rfl⟩ := inR_ex (by omega) c2
        exact .inl ⟨(hld (isPa (S 1)) rr (cov (S 1) (-1) k day feats)) r, S, hp.cs (fun d => SP_X1_holds (d := d + 19) hM hk c3 hr), jM.one (fun d g1 m hm => by have z := SP_X6_holds (d := d + 85) hm n rr k n10 h0 r16 hk h1 W.o W.r day feats c3 _ _ rfl rfl r hr; rw [h14] at z; exact z) rfl (xAg2.m6.tr xAg2.look)⟩
      · have c3f : isCs day feats = false := by simpa using c3
        have ew := wr2 h0 c2 c3
        obtain ⟨k, hk, rfl⟩ := inR_ex (by omega) c2
        exact .inr ⟨22, 2, false, S, by decide, hp.thr (fun d => SP_X1_holds_W2 (d := d + 19) hM hr hk c3f), jM.one (fun d g1 m hm => SP_X6_holds_W (d := d + 85) hm rr r16 h1 r hr _ _ _ 2 (by decide) (by decide) ew) rfl (xAg2.m6)⟩
    · exact .inr ⟨23, 1, false, S, by decide, hp.thr (fun d => SP_X1_holds_W1 (d := d + 19) hM hr c2), jM.one (fun d g1 m hm => SP_X6_holds_W (d := d + 85) hm rr r16 h1 r hr _ _ _ 1 (by decide) (by decide) (wr1 h0 c2)) rfl (xAg2.m6)⟩
  · exact .inr ⟨23, 1, false, S, by decide, hp.thr (fun d => SP_X1_holds_F (d := d + 19) hM c1), jM.one (fun d g1 m hm => SP_X6_holds_F (d := d + 85) hm rr r16 h1 v c1 sc day feats) rfl (xAg2.m6)⟩
theorem J_holdsAgain {g : xG} {x : Nat} {S : xMS} (h : xST g x S) (hK : xKs g) {v sc day feats : Int32} : jOp (fun b : Bool => Value.int (bI b)) M_X1_holdsAgain M_X6_holdsAgain [(23, 1), (22, 2)] [.int v, .int sc, .int day, .int feats] g x S := by
  obtain ⟨p, lk, fa, ka, la, Z, n, rr, ww, dq, da, hh, ps, sv, hp⟩ := h.p
  have hM := hp.M
  have W := hM.P.wf
  have n10 := W.n10
  have r16 := W.r16
  have w12 := W.w12
  have h0 := W.s0
  have h1 := W.s1
  have h2 := W.s2
  have p8 := hp.Pa.2.2.2.1
  have hpm := hp.Pa.2.2.1
  have h14 := hp.1
  have hPa : xr g x 2 = some dq ∧ xAD g 7 dq da hh ps ∧ True ∧ ps.length ≤ 8 := ⟨hp.Pa.1, hp.Pa.2.1, trivial, p8⟩
  by_cases c1 : inR v (nI 0) (nI rr - nI 1) = true
  · obtain ⟨r, hr, rfl⟩ := inR_ex (by omega) c1
    by_cases c2 : inR sc (nI 0) (nI n - nI 1) = true
    · by_cases c3 : isCs day feats = true
      · obtain ⟨k, hk, rfl⟩ := inR_ex (by omega) c2
        exact .inl ⟨(hld (isPa (S 1)) rr (cov (S 1) (-1) k day feats)) r, S, hp.cs (fun d => SP_X1_holdsAgain (d := d + 19) hM hk c3 hr), jM.one (fun d g1 m hm => by have z := SP_X6_holdsAgain (d := d + 84) hm n rr k n10 h0 r16 hk h1 W.o W.r day feats c3 _ _ rfl rfl r hr; rw [h14] at z; exact z) rfl (xAg2.m6.tr xAg2.look)⟩
      · have c3f : isCs day feats = false := by simpa using c3
        have ew := wr2 h0 c2 c3
        obtain ⟨k, hk, rfl⟩ := inR_ex (by omega) c2
        exact .inr ⟨22, 2, false, S, by decide, hp.thr (fun d => SP_X1_holdsAgain_W2 (d := d + 19) hM hr hk c3f), jM.one (fun d g1 m hm => SP_X6_holdsAgain_W (d := d + 84) hm rr r16 h1 r hr _ _ _ 2 (by decide) (by decide) ew) rfl (xAg2.m6)⟩
    · exact .inr ⟨23, 1, false, S, by decide, hp.thr (fun d => SP_X1_holdsAgain_W1 (d := d + 19) hM hr c2), jM.one (fun d g1 m hm => SP_X6_holdsAgain_W (d := d + 84) hm rr r16 h1 r hr _ _ _ 1 (by decide) (by decide) (wr1 h0 c2)) rfl (xAg2.m6)⟩
  · exact .inr ⟨23, 1, false, S, by decide, hp.thr (fun d => SP_X1_holdsAgain_F (d := d + 19) hM c1), jM.one (fun d g1 m hm => SP_X6_holdsAgain_F (d := d + 84) hm rr r16 h1 v c1 sc day feats) rfl (xAg2.m6)⟩
theorem J_outcome {g : xG} {x : Nat} {S : xMS} (h : xST g x S) (hK : xKs g) {sc day feats : Int32} : jOp Value.int M_X1_outcome M_X6_outcome [(23, 1), (22, 2)] [.int sc, .int day, .int feats] g x S := by
  obtain ⟨p, lk, fa, ka, la, Z, n, rr, ww, dq, da, hh, ps, sv, hp⟩ := h.p
  have hM := hp.M
  have W := hM.P.wf
  have n10 := W.n10
  have r16 := W.r16
  have w12 := W.w12
  have h0 := W.s0
  have h1 := W.s1
  have h2 := W.s2
  have p8 := hp.Pa.2.2.2.1
  have hpm := hp.Pa.2.2.1
  have h14 := hp.1
  have hPa : xr g x 2 = some dq ∧ xAD g 7 dq da hh ps ∧ True ∧ ps.length ≤ 8 := ⟨hp.Pa.1, hp.Pa.2.1, trivial, p8⟩
  by_cases c2 : inR sc (nI 0) (nI n - nI 1) = true
  · by_cases c3 : isCs day feats = true
    · obtain ⟨k, hk, rfl⟩ := inR_ex (by omega) c2
      exact .inl ⟨_, S, hp.cs (fun d => SP_X1_outcome (d := d + 19) hM hk c3), jM.one (fun d g1 m hm => by have z := SP_X6_outcome (d := d + 85) hm n rr k n10 h0 r16 hk h1 W.o W.r day feats c3 _ _ rfl rfl W.e4; rw [h14] at z; exact z) rfl (xAg2.m6.tr xAg2.look)⟩
    · have c3f : isCs day feats = false := by simpa using c3
      have ew := wr2 h0 c2 c3
      obtain ⟨k, hk, rfl⟩ := inR_ex (by omega) c2
      exact .inr ⟨22, 2, nI 0, S, by decide, hp.thr (fun d => SP_X1_outcome_W2 (d := d + 19) hM hk c3f), jM.one (fun d g1 m hm => SP_X6_outcome_W (d := d + 86) hm _ _ _ 2 (by decide) (by decide) ew) rfl (xAg2.m6)⟩
  · exact .inr ⟨23, 1, nI 0, S, by decide, hp.thr (fun d => SP_X1_outcome_W1 (d := d + 19) hM c2), jM.one (fun d g1 m hm => SP_X6_outcome_W (d := d + 86) hm _ _ _ 1 (by decide) (by decide) (wr1 h0 c2)) rfl (xAg2.m6)⟩
theorem J_chain {g : xG} {x : Nat} {S : xMS} (h : xST g x S) (hK : xKs g) {sc day feats e : Int32} : jOp Value.int M_X1_chain M_X6_chain [(23, 1), (22, 2), (25, 3)] [.int sc, .int day, .int feats, .int e] g x S := by
  obtain ⟨p, lk, fa, ka, la, Z, n, rr, ww, dq, da, hh, ps, sv, hp⟩ := h.p
  have hM := hp.M
  have W := hM.P.wf
  have n10 := W.n10
  have r16 := W.r16
  have w12 := W.w12
  have h0 := W.s0
  have h1 := W.s1
  have h2 := W.s2
  have p8 := hp.Pa.2.2.2.1
  have hpm := hp.Pa.2.2.1
  have h14 := hp.1
  have hPa : xr g x 2 = some dq ∧ xAD g 7 dq da hh ps ∧ True ∧ ps.length ≤ 8 := ⟨hp.Pa.1, hp.Pa.2.1, trivial, p8⟩
  by_cases c2 : inR sc (nI 0) (nI n - nI 1) = true
  · by_cases c3 : isCs day feats = true
    · obtain ⟨k, hk, rfl⟩ := inR_ex (by omega) c2
      have q : ∀ (d : Nat) (g1 : xG) (m : Nat), xMod g1 m → XM M_X6_chain (d + 90) [.ref m, .int (nI k), .int day, .int feats, .int e] (xWith g1 m S) (xOne (some (.int (opChain (chnS (lookP (mset S 0 6 (nI 0)) (cov (S 1) (-1) k day feats) (hld (isPa (S 1)) rr (cov (S 1) (-1) k day feats)) 0 rr) (chn (S 1) (cov (S 1) (-1) k day feats) (hld (isPa (S 1)) rr (cov (S 1) (-1) k day feats)) rr)) (chn (S 1) (cov (S 1) (-1) k day feats) (hld (isPa (S 1)) rr (cov (S 1) (-1) k day feats)) rr) e).1)) (xWith g1 m (opChain (chnS (lookP (mset S 0 6 (nI 0)) (cov (S 1) (-1) k day feats) (hld (isPa (S 1)) rr (cov (S 1) (-1) k day feats)) 0 rr) (chn (S 1) (cov (S 1) (-1) k day feats) (hld (isPa (S 1)) rr (cov (S 1) (-1) k day feats)) rr)) (chn (S 1) (cov (S 1) (-1) k day feats) (hld (isPa (S 1)) rr (cov (S 1) (-1) k day feats)) rr) e).2)) := fun d g1 m hm => by have z := SP_X6_chain (d := d + 85) hm n rr k n10 h0 r16 hk h1 W.o W.r day feats c3 _ _ rfl rfl e; rw [h14] at z; exact z
      have hL : (chn (S 1) (cov (S 1) (-1) k day feats) (hld (isPa (S 1)) rr (cov (S 1) (-1) k day feats)) rr).length < 1000 := Nat.lt_of_le_of_lt chn_len (by omega)
      by_cases c4 : inR e (-1) (nI (chn (S 1) (cov (S 1) (-1) k day feats) (hld (isPa (S 1)) rr (cov (S 1) (-1) k day feats)) rr).length - nI 1) = true
      · rcases inR_m1 (by omega) c4 with rfl | ⟨j, hj, rfl⟩
        · have ee : opChain (chnS (lookP (mset S 0 6 (nI 0)) (cov (S 1) (-1) k day feats) (hld (isPa (S 1)) rr (cov (S 1) (-1) k day feats)) 0 rr) (chn (S 1) (cov (S 1) (-1) k day feats) (hld (isPa (S 1)) rr (cov (S 1) (-1) k day feats)) rr)) (chn (S 1) (cov (S 1) (-1) k day feats) (hld (isPa (S 1)) rr (cov (S 1) (-1) k day feats)) rr) (-1) = (nI (chn (S 1) (cov (S 1) (-1) k day feats) (hld (isPa (S 1)) rr (cov (S 1) (-1) k day feats)) rr).length, mset (chnS (lookP (mset S 0 6 (nI 0)) (cov (S 1) (-1) k day feats) (hld (isPa (S 1)) rr (cov (S 1) (-1) k day feats)) 0 rr) (chn (S 1) (cov (S 1) (-1) k day feats) (hld (isPa (S 1)) rr (cov (S 1) (-1) k day feats)) rr)) 0 6 (nI 0)) := by unfold opChain; rw [if_neg (by rw [c4]; decide), if_pos (by decide)]
          simp only [ee] at q
          exact .inl ⟨_, S, hp.cs (fun d => SP_X1_chain_N (d := d + 19) hM hk c3), jM.one (q) rfl (((xAg2.m6.tr xAg2.look).tr xAg2.chn).tr xAg2.m6)⟩
        · have ee : opChain (chnS (lookP (mset S 0 6 (nI 0)) (cov (S 1) (-1) k day feats) (hld (isPa (S 1)) rr (cov (S 1) (-1) k day feats)) 0 rr) (chn (S 1) (cov (S 1) (-1) k day feats) (hld (isPa (S 1)) rr (cov (S 1) (-1) k day feats)) rr)) (chn (S 1) (cov (S 1) (-1) k day feats) (hld (isPa (S 1)) rr (cov (S 1) (-1) k day feats)) rr) (nI j) = (nI ((chn (S 1) (cov (S 1) (-1) k day feats) (hld (isPa (S 1)) rr (cov (S 1) (-1) k day feats)) rr).getD j 0), mset (chnS (lookP (mset S 0 6 (nI 0)) (cov (S 1) (-1) k day feats) (hld (isPa (S 1)) rr (cov (S 1) (-1) k day feats)) 0 rr) (chn (S 1) (cov (S 1) (-1) k day feats) (hld (isPa (S 1)) rr (cov (S 1) (-1) k day feats)) rr)) 0 6 (nI 0)) := by unfold opChain; rw [if_neg (by rw [c4]; decide), if_neg (nI_lt0 (by omega)), nI_c (by omega)]
          simp only [ee] at q
          exact .inl ⟨_, S, hp.cs (fun d => SP_X1_chain_I (d := d + 19) hM hk c3 hj), jM.one (q) rfl (((xAg2.m6.tr xAg2.look).tr xAg2.chn).tr xAg2.m6)⟩
      · have ee : opChain (chnS (lookP (mset S 0 6 (nI 0)) (cov (S 1) (-1) k day feats) (hld (isPa (S 1)) rr (cov (S 1) (-1) k day feats)) 0 rr) (chn (S 1) (cov (S 1) (-1) k day feats) (hld (isPa (S 1)) rr (cov (S 1) (-1) k day feats)) rr)) (chn (S 1) (cov (S 1) (-1) k day feats) (hld (isPa (S 1)) rr (cov (S 1) (-1) k day feats)) rr) e = (nI 0, mset (chnS (lookP (mset S 0 6 (nI 0)) (cov (S 1) (-1) k day feats) (hld (isPa (S 1)) rr (cov (S 1) (-1) k day feats)) 0 rr) (chn (S 1) (cov (S 1) (-1) k day feats) (hld (isPa (S 1)) rr (cov (S 1) (-1) k day feats)) rr)) 0 6 (nI 3)) := by unfold opChain; rw [if_pos (inR_f c4)]
        simp only [ee] at q
        exact .inr ⟨25, 3, nI 0, S, by decide, hp.csF (fun d => SP_X1_chain_F (d := d + 19) hM hk c3 c4), jM.one (q) rfl (((xAg2.m6.tr xAg2.look).tr xAg2.chn).tr xAg2.m6)⟩
    · have c3f : isCs day feats = false := by simpa using c3
      have ew := wr2 h0 c2 c3
      obtain ⟨k, hk, rfl⟩ := inR_ex (by omega) c2
      exact .inr ⟨22, 2, nI 0, S, by decide, hp.thr (fun d => SP_X1_chain_W2 (d := d + 19) hM hk c3f), jM.one (fun d g1 m hm => SP_X6_chain_W (d := d + 85) hm _ _ _ _ 2 (by decide) (by decide) ew) rfl (xAg2.m6)⟩
  · exact .inr ⟨23, 1, nI 0, S, by decide, hp.thr (fun d => SP_X1_chain_W1 (d := d + 19) hM c2), jM.one (fun d g1 m hm => SP_X6_chain_W (d := d + 85) hm _ _ _ _ 1 (by decide) (by decide) (wr1 h0 c2)) rfl (xAg2.m6)⟩
theorem J_rival {g : xG} {x : Nat} {S : xMS} (h : xST g x S) (hK : xKs g) {sc day feats e : Int32} : jOp Value.int M_X1_rival M_X6_rival [(23, 1), (22, 2), (25, 3)] [.int sc, .int day, .int feats, .int e] g x S := by
  obtain ⟨p, lk, fa, ka, la, Z, n, rr, ww, dq, da, hh, ps, sv, hp⟩ := h.p
  have hM := hp.M
  have W := hM.P.wf
  have n10 := W.n10
  have r16 := W.r16
  have w12 := W.w12
  have h0 := W.s0
  have h1 := W.s1
  have h2 := W.s2
  have p8 := hp.Pa.2.2.2.1
  have hpm := hp.Pa.2.2.1
  have h14 := hp.1
  have hPa : xr g x 2 = some dq ∧ xAD g 7 dq da hh ps ∧ True ∧ ps.length ≤ 8 := ⟨hp.Pa.1, hp.Pa.2.1, trivial, p8⟩
  by_cases c2 : inR sc (nI 0) (nI n - nI 1) = true
  · by_cases c3 : isCs day feats = true
    · obtain ⟨k, hk, rfl⟩ := inR_ex (by omega) c2
      have q : ∀ (d : Nat) (g1 : xG) (m : Nat), xMod g1 m → XM M_X6_rival (d + 90) [.ref m, .int (nI k), .int day, .int feats, .int e] (xWith g1 m S) (xOne (some (.int (opRival (lookP (mset S 0 6 (nI 0)) (cov (S 1) (-1) k day feats) (hld (isPa (S 1)) rr (cov (S 1) (-1) k day feats)) 0 rr) (rivP (S 1) (hld (isPa (S 1)) rr (cov (S 1) (-1) k day feats)) rr) rr e).1)) (xWith g1 m (opRival (lookP (mset S 0 6 (nI 0)) (cov (S 1) (-1) k day feats) (hld (isPa (S 1)) rr (cov (S 1) (-1) k day feats)) 0 rr) (rivP (S 1) (hld (isPa (S 1)) rr (cov (S 1) (-1) k day feats)) rr) rr e).2)) := fun d g1 m hm => by have z := SP_X6_rival (d := d + 85) hm n rr k n10 h0 r16 hk h1 W.o W.r day feats c3 _ _ rfl rfl e; rw [h14] at z; exact z
      have hL : cntB (rivP (S 1) (hld (isPa (S 1)) rr (cov (S 1) (-1) k day feats)) rr) rr < 1000 := Nat.lt_of_le_of_lt (cntB_le _ _) (by omega)
      by_cases c4 : inR e (-1) (nI (cntB (rivP (S 1) (hld (isPa (S 1)) rr (cov (S 1) (-1) k day feats)) rr) rr) - nI 1) = true
      · rcases inR_m1 (by omega) c4 with rfl | ⟨j, hj, rfl⟩
        · have ee : opRival (lookP (mset S 0 6 (nI 0)) (cov (S 1) (-1) k day feats) (hld (isPa (S 1)) rr (cov (S 1) (-1) k day feats)) 0 rr) (rivP (S 1) (hld (isPa (S 1)) rr (cov (S 1) (-1) k day feats)) rr) rr (-1) = (nI (cntB (rivP (S 1) (hld (isPa (S 1)) rr (cov (S 1) (-1) k day feats)) rr) rr), mset (lookP (mset S 0 6 (nI 0)) (cov (S 1) (-1) k day feats) (hld (isPa (S 1)) rr (cov (S 1) (-1) k day feats)) 0 rr) 0 6 (nI 0)) := by unfold opRival; rw [rvK_m1 r16]; rfl
          simp only [ee] at q
          exact .inl ⟨_, S, hp.cs (fun d => SP_X1_rival_N (d := d + 19) hM hk c3), jM.one (q) rfl ((xAg2.m6.tr xAg2.look).tr xAg2.m6)⟩
        · obtain ⟨t, ht⟩ := rvK_i (P := (rivP (S 1) (hld (isPa (S 1)) rr (cov (S 1) (-1) k day feats)) rr)) rr 0 (Nat.zero_le j) (by rw [Nat.zero_add]; exact hj)
          have ht0 : rvK (rivP (S 1) (hld (isPa (S 1)) rr (cov (S 1) (-1) k day feats)) rr) (nI j) rr 0 0 = some t := ht
          have ee : opRival (lookP (mset S 0 6 (nI 0)) (cov (S 1) (-1) k day feats) (hld (isPa (S 1)) rr (cov (S 1) (-1) k day feats)) 0 rr) (rivP (S 1) (hld (isPa (S 1)) rr (cov (S 1) (-1) k day feats)) rr) rr (nI j) = (nI t, (lookP (mset S 0 6 (nI 0)) (cov (S 1) (-1) k day feats) (hld (isPa (S 1)) rr (cov (S 1) (-1) k day feats)) 0 rr)) := by unfold opRival; rw [ht0]
          simp only [ee] at q
          exact .inl ⟨_, S, hp.cs (fun d => SP_X1_rival_I (d := d + 19) hM hk c3 hj ht0), jM.one (q) rfl (xAg2.m6.tr xAg2.look)⟩
      · have ee : opRival (lookP (mset S 0 6 (nI 0)) (cov (S 1) (-1) k day feats) (hld (isPa (S 1)) rr (cov (S 1) (-1) k day feats)) 0 rr) (rivP (S 1) (hld (isPa (S 1)) rr (cov (S 1) (-1) k day feats)) rr) rr e = (nI 0, mset (lookP (mset S 0 6 (nI 0)) (cov (S 1) (-1) k day feats) (hld (isPa (S 1)) rr (cov (S 1) (-1) k day feats)) 0 rr) 0 6 (nI 3)) := by
          have em : e ≠ -1 := fun h => c4 (by rw [h]; exact inR_m1x hL)
          unfold opRival
          rw [rvK_out r16 c4]
          simp only [if_neg em]
        simp only [ee] at q
        exact .inr ⟨25, 3, nI 0, S, by decide, hp.csF (fun d => SP_X1_rival_F (d := d + 19) hM hk c3 c4), jM.one (q) rfl ((xAg2.m6.tr xAg2.look).tr xAg2.m6)⟩
    · have c3f : isCs day feats = false := by simpa using c3
      have ew := wr2 h0 c2 c3
      obtain ⟨k, hk, rfl⟩ := inR_ex (by omega) c2
      exact .inr ⟨22, 2, nI 0, S, by decide, hp.thr (fun d => SP_X1_rival_W2 (d := d + 19) hM hk c3f), jM.one (fun d g1 m hm => SP_X6_rival_W (d := d + 85) hm _ _ _ _ 2 (by decide) (by decide) ew) rfl (xAg2.m6)⟩
  · exact .inr ⟨23, 1, nI 0, S, by decide, hp.thr (fun d => SP_X1_rival_W1 (d := d + 19) hM c2), jM.one (fun d g1 m hm => SP_X6_rival_W (d := d + 85) hm _ _ _ _ 1 (by decide) (by decide) (wr1 h0 c2)) rfl (xAg2.m6)⟩
theorem jM.nx {v : Int32} {c : Nat} {Mr : xM} {as : List Value} {S S' T0 : xMS} {F : xMS → xMS} (h : ∀ d g1 m, xMod g1 m → XM Mr (d + 90) (.ref m :: as) (xWith g1 m S) (fun rs g' => ∃ T, lkEq T0 T ∧ rs = .inl (some (.int v)) ∧ g' = xWith g1 m (F T))) (h6 : ∀ T, lkEq T0 T → F T 0 6 = nI c) (ha : ∀ T, lkEq T0 T → xAg2 S' (F T)) : jM Mr as S (.int v) c S' := fun d g1 m hM h3 _ => (h d g1 m hM).mono (fun rs g' ⟨U, e2, e1, e3⟩ _ => ⟨e1, g1, F U, e3, ha U e2, h6 U e2, hM, h3, xFr.rf⟩)
theorem J_nextChange {g : xG} {x : Nat} {S : xMS} (h : xST g x S) (hK : xKs g) {sc day feats : Int32} : jOp Value.int M_X1_nextChange M_X6_nextChange [(23, 1), (22, 2), (25, 3)] [.int sc, .int day, .int feats] g x S := by
  obtain ⟨p, lk, fa, ka, la, Z, n, rr, ww, dq, da, hh, ps, sv, hp⟩ := h.p
  have hM := hp.M
  have W := hM.P.wf
  have n10 := W.n10
  have r16 := W.r16
  have w12 := W.w12
  have h0 := W.s0
  have h1 := W.s1
  have h2 := W.s2
  have p8 := hp.Pa.2.2.2.1
  have hpm := hp.Pa.2.2.1
  have h14 := hp.1
  have hPa : xr g x 2 = some dq ∧ xAD g 7 dq da hh ps ∧ True ∧ ps.length ≤ 8 := ⟨hp.Pa.1, hp.Pa.2.1, trivial, p8⟩
  by_cases c2 : inR sc (nI 0) (nI n - nI 1) = true
  · by_cases c3 : isCs day feats = true
    · obtain ⟨k, hk, rfl⟩ := inR_ex (by omega) c2
      obtain ⟨dd, hdd, rfl⟩ := isCs_day c3
      have qc : ∀ d, _ := fun d => SP_X1_nextChange (d := d + 19) hM hk hdd c3
      have qr : ∀ (d : Nat) (g1 : xG) (m : Nat) (hm : xMod g1 m), _ := fun d g1 m hm => SP_X6_nextChange (d := d + 84) hm n rr k n10 h0 r16 hk h1 W.o W.r (nI dd) feats c3 W.e4 dd hdd rfl
      simp only [h14] at qr
      cases hh : nxD (oc (S 1) (-1) rr k feats) (oc (S 1) (-1) rr k feats (nI dd)) (999 - dd) (dd + 1) with
      | some r =>
        simp only [hh] at qc qr
        exact .inl ⟨nI r, S, hp.lb (N := 0) (by decide) (fun d => (qc d).mono (fun rs g' ⟨e1, ⟨dy, e2⟩, e3⟩ _ => ⟨e1, e2.lb, e3⟩)), jM.nx (F := fun T => T) (T0 := mset S 0 6 (nI 0)) (fun d g1 m hm => qr d g1 m hm) (fun T hT => by rw [hT 0 (by decide) (by decide)]; rfl) (fun T hT => xAg2.m6.tr (xAg2.lk hT))⟩
      | none =>
        simp only [hh] at qc qr
        exact .inr ⟨25, 3, nI 0, S, by decide, hp.thF (fun d => (qc d).mono (fun rs g' ⟨g1, ⟨⟨dy, e2⟩, e3⟩, e1⟩ _ => ⟨g1, ⟨e2.lb, e3⟩, e1⟩)), jM.nx (F := fun T => mset T 0 6 (nI 3)) (T0 := mset S 0 6 (nI 0)) (fun d g1 m hm => qr d g1 m hm) (fun T hT => rfl) (fun T hT => (xAg2.m6.tr (xAg2.lk hT)).tr xAg2.m6)⟩
    · have c3f : isCs day feats = false := by simpa using c3
      have ew := wr2 h0 c2 c3
      obtain ⟨k, hk, rfl⟩ := inR_ex (by omega) c2
      exact .inr ⟨22, 2, nI 0, S, by decide, hp.thr (fun d => SP_X1_nextChange_W2 (d := d + 19) hM hk c3f), jM.one (fun d g1 m hm => SP_X6_nextChange_W (d := d + 85) hm _ _ _ 2 (by decide) (by decide) ew) rfl (xAg2.m6)⟩
  · exact .inr ⟨23, 1, nI 0, S, by decide, hp.thr (fun d => SP_X1_nextChange_W1 (d := d + 19) hM c2), jM.one (fun d g1 m hm => SP_X6_nextChange_W (d := d + 85) hm _ _ _ 1 (by decide) (by decide) (wr1 h0 c2)) rfl (xAg2.m6)⟩
theorem J_days {g : xG} {x : Nat} {S : xMS} (h : xST g x S) (hK : xKs g) {e v feats : Int32} : jOp Value.int M_X1_days M_X6_days [(23, 1), (22, 2)] [.int e, .int v, .int feats] g x S := by
  obtain ⟨p, lk, fa, ka, la, Z, n, rr, ww, dq, da, hh, ps, sv, hp⟩ := h.p
  have hM := hp.M
  have W := hM.P.wf
  have n10 := W.n10
  have r16 := W.r16
  have w12 := W.w12
  have h0 := W.s0
  have h1 := W.s1
  have h2 := W.s2
  have p8 := hp.Pa.2.2.2.1
  have hpm := hp.Pa.2.2.1
  have h14 := hp.1
  have hPa : xr g x 2 = some dq ∧ xAD g 7 dq da hh ps ∧ True ∧ ps.length ≤ 8 := ⟨hp.Pa.1, hp.Pa.2.1, trivial, p8⟩
  by_cases c1 : inR v (nI 0) (nI n - nI 1) = true
  · obtain ⟨k, hk, rfl⟩ := inR_ex (by omega) c1
    by_cases c2 : (inR e (nI 0) (nI 2) && inR feats (nI 0) (nI 999999)) = true
    · have c2' := c2
      simp only [Bool.and_eq_true] at c2'
      exact .inl ⟨_, S, hp.lb (N := 0) (by decide) (fun d => (SP_X1_days (d := d + 19) hM hk c2'.1 c2'.2).mono (fun rs g' ⟨e1, ⟨dy, e2⟩, e3⟩ _ => ⟨e1, e2.lb, e3⟩)), jM.lk (fun d g1 m hm => by have z := SP_X6_days (d := d + 84) hm n n10 h0 rr r16 h1 W.o W.r W.e4 k hk e feats c2'.1 (by rw [isCs0]; exact c2'.2); rw [h14] at z; exact z) rfl xAg2.m6⟩
    · have c2f : (inR e (nI 0) (nI 2) && inR feats (nI 0) (nI 999999)) = false := by simpa using c2
      exact .inr ⟨22, 2, nI 0, S, by decide, hp.thr (fun d => SP_X1_days_F2 (d := d + 19) hM hk c2f), jM.one (fun d g1 m hm => SP_X6_days_F2 (d := d + 87) hm n n10 h0 k hk e feats (by rw [isCs0]; exact c2f)) rfl (xAg2.m6)⟩
  · exact .inr ⟨23, 1, nI 0, S, by decide, hp.thr (fun d => SP_X1_days_F (d := d + 19) hM c1), jM.one (fun d g1 m hm => SP_X6_days_F (d := d + 87) hm n n10 h0 v c1 e feats) rfl (xAg2.m6)⟩
theorem J_burden {g : xG} {x : Nat} {S : xMS} (h : xST g x S) (hK : xKs g) {sc day feats : Int32} : jOpP fZ Value.float M_X1_burden M_X6_burden [(23, 1), (22, 2)] [.int sc, .int day, .int feats] g x S := by
  obtain ⟨p, lk, fa, ka, la, Z, n, rr, ww, dq, da, hh, ps, sv, hp⟩ := h.p
  have hM := hp.M
  have W := hM.P.wf
  have n10 := W.n10
  have r16 := W.r16
  have w12 := W.w12
  have h0 := W.s0
  have h1 := W.s1
  have h2 := W.s2
  have p8 := hp.Pa.2.2.2.1
  have hpm := hp.Pa.2.2.1
  have h14 := hp.1
  have hPa : xr g x 2 = some dq ∧ xAD g 7 dq da hh ps ∧ True ∧ ps.length ≤ 8 := ⟨hp.Pa.1, hp.Pa.2.1, trivial, p8⟩
  by_cases c2 : inR sc (nI 0) (nI n - nI 1) = true
  · by_cases c3 : isCs day feats = true
    · obtain ⟨k, hk, rfl⟩ := inR_ex (by omega) c2
      exact .inl ⟨_, S, brV_Z W.br r16, hp.cs (fun d => SP_X1_burden (d := d + 19) hM hk c3), jM.one (fun d g1 m hm => by have z := SP_X6_burden (d := d + 85) hm n rr k n10 h0 r16 hk h1 W.o W.r day feats c3 _ _ rfl rfl W.br; rw [h14] at z; exact z) rfl (xAg2.m6.tr xAg2.look)⟩
    · have c3f : isCs day feats = false := by simpa using c3
      have ew := wr2 h0 c2 c3
      obtain ⟨k, hk, rfl⟩ := inR_ex (by omega) c2
      exact .inr ⟨22, 2, FP.fconst0, S, by decide, hp.thr (fun d => SP_X1_burden_W2 (d := d + 19) hM hk c3f), jM.one (fun d g1 m hm => SP_X6_burden_W (d := d + 85) hm _ _ _ 2 (by decide) (by decide) ew) rfl (xAg2.m6)⟩
  · exact .inr ⟨23, 1, FP.fconst0, S, by decide, hp.thr (fun d => SP_X1_burden_W1 (d := d + 19) hM c2), jM.one (fun d g1 m hm => SP_X6_burden_W (d := d + 85) hm _ _ _ 1 (by decide) (by decide) (wr1 h0 c2)) rfl (xAg2.m6)⟩
theorem J_percent {g : xG} {x : Nat} {S : xMS} (h : xST g x S) (hK : xKs g) {sc day feats : Int32} : jOp Value.int M_X1_percent M_X6_percent [(23, 1), (22, 2)] [.int sc, .int day, .int feats] g x S := by
  obtain ⟨p, lk, fa, ka, la, Z, n, rr, ww, dq, da, hh, ps, sv, hp⟩ := h.p
  have hM := hp.M
  have W := hM.P.wf
  have n10 := W.n10
  have r16 := W.r16
  have w12 := W.w12
  have h0 := W.s0
  have h1 := W.s1
  have h2 := W.s2
  have p8 := hp.Pa.2.2.2.1
  have hpm := hp.Pa.2.2.1
  have h14 := hp.1
  have hPa : xr g x 2 = some dq ∧ xAD g 7 dq da hh ps ∧ True ∧ ps.length ≤ 8 := ⟨hp.Pa.1, hp.Pa.2.1, trivial, p8⟩
  by_cases c2 : inR sc (nI 0) (nI n - nI 1) = true
  · by_cases c3 : isCs day feats = true
    · obtain ⟨k, hk, rfl⟩ := inR_ex (by omega) c2
      exact .inl ⟨_, S, hp.cs (fun d => SP_X1_percent (d := d + 19) hM hk c3), jM.one (fun d g1 m hm => by have z := SP_X6_percent (d := d + 85) hm n rr k n10 h0 r16 hk h1 W.o W.r day feats c3 _ _ rfl rfl W.br; rw [h14] at z; exact z) rfl (xAg2.m6.tr xAg2.look)⟩
    · have c3f : isCs day feats = false := by simpa using c3
      have ew := wr2 h0 c2 c3
      obtain ⟨k, hk, rfl⟩ := inR_ex (by omega) c2
      exact .inr ⟨22, 2, nI 0, S, by decide, hp.thr (fun d => SP_X1_percent_W2 (d := d + 19) hM hk c3f), jM.one (fun d g1 m hm => SP_X6_percent_W (d := d + 85) hm _ _ _ 2 (by decide) (by decide) ew) rfl (xAg2.m6)⟩
  · exact .inr ⟨23, 1, nI 0, S, by decide, hp.thr (fun d => SP_X1_percent_W1 (d := d + 19) hM c2), jM.one (fun d g1 m hm => SP_X6_percent_W (d := d + 85) hm _ _ _ 1 (by decide) (by decide) (wr1 h0 c2)) rfl (xAg2.m6)⟩
theorem J_caseOf {g : xG} {x : Nat} {S : xMS} (h : xST g x S) (hK : xKs g) {v e : Int32} : jOp Value.int M_X1_caseOf M_X6_caseOf [(23, 1), (22, 2)] [.int v, .int e] g x S := by
  obtain ⟨p, lk, fa, ka, la, Z, n, rr, ww, dq, da, hh, ps, sv, hp⟩ := h.p
  have hM := hp.M
  have W := hM.P.wf
  have n10 := W.n10
  have r16 := W.r16
  have w12 := W.w12
  have h0 := W.s0
  have h1 := W.s1
  have h2 := W.s2
  have p8 := hp.Pa.2.2.2.1
  have hpm := hp.Pa.2.2.1
  have h14 := hp.1
  have hPa : xr g x 2 = some dq ∧ xAD g 7 dq da hh ps ∧ True ∧ ps.length ≤ 8 := ⟨hp.Pa.1, hp.Pa.2.1, trivial, p8⟩
  by_cases c1 : inR v (nI 0) (nI ww - nI 1) = true
  · obtain ⟨k, hk, rfl⟩ := inR_ex (by omega) c1
    by_cases c2 : inR e (nI 0) (nI 6) = true
    · obtain ⟨w, hw, rfl⟩ := inR_nat (by decide) c2
      have hw5 : w = 0 ∨ w = 1 ∨ w = 2 ∨ w = 3 ∨ w = 4 ∨ w = 5 ∨ w = 6 := by omega
      rcases hw5 with rfl | rfl | rfl | rfl | rfl | rfl | rfl
      · exact .inl ⟨_, S, hp.one (fun d => SP_X1_caseOf0 (d := d + 10) hM hk), jM.lkC (fun d g1 m hm => by have z := SP_X6_caseOf (d := d + 83) hm n rr ww n10 r16 w12 h1 h2 W.o W.r W.w W.e4 k 0 hk (by decide); rw [h14] at z; exact z) rfl (xAg2.m6)⟩
      · exact .inl ⟨_, S, hp.one (fun d => SP_X1_caseOf1 (d := d + 10) hM hk), jM.lkC (fun d g1 m hm => by have z := SP_X6_caseOf (d := d + 83) hm n rr ww n10 r16 w12 h1 h2 W.o W.r W.w W.e4 k 1 hk (by decide); rw [h14] at z; exact z) rfl (xAg2.m6)⟩
      · exact .inl ⟨_, S, hp.one (fun d => SP_X1_caseOf2 (d := d + 10) hM hk), jM.lkC (fun d g1 m hm => by have z := SP_X6_caseOf (d := d + 83) hm n rr ww n10 r16 w12 h1 h2 W.o W.r W.w W.e4 k 2 hk (by decide); rw [h14] at z; exact z) rfl (xAg2.m6)⟩
      · exact .inl ⟨_, S, hp.one (fun d => SP_X1_caseOf3 (d := d + 10) hM hk), jM.lkC (fun d g1 m hm => by have z := SP_X6_caseOf (d := d + 83) hm n rr ww n10 r16 w12 h1 h2 W.o W.r W.w W.e4 k 3 hk (by decide); rw [h14] at z; exact z) rfl (xAg2.m6)⟩
      · exact .inl ⟨_, S, hp.lb (N := 0) (by decide) (fun d => SP_X1_caseOf4 (d := d + 10) hM hk), jM.lkC (fun d g1 m hm => by have z := SP_X6_caseOf (d := d + 83) hm n rr ww n10 r16 w12 h1 h2 W.o W.r W.w W.e4 k 4 hk (by decide); rw [h14] at z; exact z) rfl (xAg2.m6)⟩
      · exact .inl ⟨_, S, hp.lb (N := 0) (by decide) (fun d => SP_X1_caseOf5 (d := d + 10) hM hk), jM.lkC (fun d g1 m hm => by have z := SP_X6_caseOf (d := d + 83) hm n rr ww n10 r16 w12 h1 h2 W.o W.r W.w W.e4 k 5 hk (by decide); rw [h14] at z; exact z) rfl (xAg2.m6)⟩
      · exact .inl ⟨_, S, hp.lb (N := 0) (by decide) (fun d => SP_X1_caseOf6 (d := d + 10) hM hk), jM.lkC (fun d g1 m hm => by have z := SP_X6_caseOf (d := d + 83) hm n rr ww n10 r16 w12 h1 h2 W.o W.r W.w W.e4 k 6 hk (by decide); rw [h14] at z; exact z) rfl (xAg2.m6)⟩
    · exact .inr ⟨22, 2, nI 0, S, by decide, hp.thr (fun d => SP_X1_caseOf_F2 (d := d + 10) hM hk c2), jM.one (fun d g1 m hm => SP_X6_caseOf_F2 (d := d + 88) hm ww w12 h2 k hk e c2) rfl (xAg2.m6)⟩
  · exact .inr ⟨23, 1, nI 0, S, by decide, hp.thr (fun d => SP_X1_caseOf_F (d := d + 10) hM c1), jM.one (fun d g1 m hm => SP_X6_caseOf_F (d := d + 88) hm ww w12 h2 v c1 e) rfl (xAg2.m6)⟩
theorem J_without {g : xG} {x : Nat} {S : xMS} (h : xST g x S) (hK : xKs g) {v : Int32} : jOp Value.int M_X1_without M_X6_without [(23, 1)] [.int v] g x S := by
  obtain ⟨p, lk, fa, ka, la, Z, n, rr, ww, dq, da, hh, ps, sv, hp⟩ := h.p
  have hM := hp.M
  have W := hM.P.wf
  have n10 := W.n10
  have r16 := W.r16
  have w12 := W.w12
  have h0 := W.s0
  have h1 := W.s1
  have h2 := W.s2
  have p8 := hp.Pa.2.2.2.1
  have hpm := hp.Pa.2.2.1
  have h14 := hp.1
  have hPa : xr g x 2 = some dq ∧ xAD g 7 dq da hh ps ∧ True ∧ ps.length ≤ 8 := ⟨hp.Pa.1, hp.Pa.2.1, trivial, p8⟩
  by_cases c1 : inR v (nI 0) (nI rr - nI 1) = true
  · obtain ⟨r, hr, rfl⟩ := inR_ex (by omega) c1
    refine .inl ⟨_, S, hp.lb (N := 3) (by decide) (fun d => SP_X1_without (d := d + 13) hM hr), fun d g1 m hm h3 _ => (SP_X6_without (d := d + 82) hm n rr ww n10 r16 w12 h1 h2 W.o W.r W.w W.e4 r hr).mono (fun rs g' ⟨e1, U, e2, e3⟩ _ => ⟨e1, g1, _, e3, ?_, ?_, hm, h3, xFr.rf⟩)⟩
    · have q := xAg2.lk e2
      obtain ⟨⟨a1, a2, a3⟩, ⟨b1, b2, b3, b4, b5⟩, ⟨d1, d2, d3⟩, d4, d5, d6, d7, d8, d9⟩ := q
      exact ⟨⟨a1, a2, a3⟩, ⟨b1, b2, b3, b4, b5⟩, ⟨d1, d2, h14.symm⟩, d4, d5, d6, d7, d8, d9⟩
    · show U 0 6 = nI 0
      rw [e2 0 (by decide) (by decide)]
      rfl
  · exact .inr ⟨23, 1, nI 0, S, by decide, hp.thr (fun d => SP_X1_without_F (d := d + 13) hM c1), jM.one (fun d g1 m hm => SP_X6_without_F (d := d + 88) hm rr r16 h1 v c1) rfl (xAg2.m6)⟩
