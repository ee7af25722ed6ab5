/-! LAW 6: ops that change the policy -/
set_option maxRecDepth 100000
/-- alike before the push -/
def bAg (S T : xMS) : Prop := (T 1 = S 1 ∧ T 2 = S 2 ∧ T 3 = S 3 ∧ T 4 = S 4 ∧ T 9 = S 9 ∧ T 10 = S 10 ∧ T 11 = S 11 ∧ T 12 = S 12 ∧ T 13 = S 13) ∧ ∀ j, j ≠ 6 → j ≠ 9 → j ≠ 11 → T 0 j = S 0 j
theorem push_cg {S T : xMS} {q : Nat} (h1 : T 1 = S 1) (h2 : T 2 = S 2) (h4 : T 4 = S 4) : push T q 4 = push S q 4 := by
  unfold push chg
  split
  · simp [mset_q, mcpy_q, mcpy_s, h1, h2, h4]
  · simp [mset_q, mcpy_q, mcpy_s, h1, h2, h4]
theorem pAg.pu {S T : xMS} {q : Nat} (h : bAg S T) : pAg S (push T q) q := by
  obtain ⟨⟨a1, a2, a3, a4, a5, a6, a7, a8, a9⟩, b⟩ := h
  refine ⟨⟨(push_q (by decide) (by decide) (by decide)).trans a3, (push_q (by decide) (by decide) (by decide)).trans a5, (push_q (by decide) (by decide) (by decide)).trans a6, (push_q (by decide) (by decide) (by decide)).trans a7, (push_q (by decide) (by decide) (by decide)).trans a8, (push_q (by decide) (by decide) (by decide)).trans a9⟩, push_cg a1 a2 a4, fun j h6 h9 h11 => ?_⟩
  rw [push_0, push_0, b j h6 h9 h11]
theorem bAg.m6 {S : xMS} {v : Int32} : bAg S (mset S 0 6 v) := ⟨⟨rfl, rfl, rfl, rfl, rfl, rfl, rfl, rfl, rfl⟩, fun j h6 _ _ => if_neg (fun h => h6 h.2)⟩
theorem bAg.m9 {S T : xMS} {v : Int32} (h : bAg S T) : bAg S (mset T 0 9 v) := ⟨h.1, fun j h6 h9 h11 => (if_neg (fun h => h9 h.2)).trans (h.2 j h6 h9 h11)⟩
theorem bAg.m11 {S T : xMS} {v : Int32} (h : bAg S T) : bAg S (mset T 0 11 v) := ⟨h.1, fun j h6 h9 h11 => (if_neg (fun h => h11 h.2)).trans (h.2 j h6 h9 h11)⟩
theorem bAg.m5 {S T : xMS} {j : Nat} {v : Int32} (h : bAg S T) : bAg S (mset T 5 j v) := ⟨h.1, h.2⟩
theorem pAg.u1 {S T U : xMS} {q : Nat} (h : pAg S T q) (hU : ∀ a, a ≠ 1 → U a = T a) : pAg S U q := by
  obtain ⟨⟨a3, a9, a10, a11, a12, a13⟩, a4, a0⟩ := h
  exact ⟨⟨(hU 3 (by decide)).trans a3, (hU 9 (by decide)).trans a9, (hU 10 (by decide)).trans a10, (hU 11 (by decide)).trans a11, (hU 12 (by decide)).trans a12, (hU 13 (by decide)).trans a13⟩, (hU 4 (by decide)).trans a4, fun j h6 h9 h11 => by rw [hU 0 (by decide)]; exact a0 j h6 h9 h11⟩
theorem mset_1 {S : xMS} {j a : Nat} {v : Int32} (h : a ≠ 1) : mset S 1 j v a = S a := by
  funext i
  exact if_neg (fun q => h q.1)
theorem putR_q {S : xMS} {rr a : Nat} {e par sc rank f l : Int32} (h : a ≠ 1) : putR S rr e par sc rank f l a = S a := by
  unfold putR
  rw [mset_1 h, mset_1 h, mset_1 h, mset_1 h, mset_1 h, mset_1 h, mset_1 h, mset_1 h]
  funext i
  exact if_neg (fun q => h q.1)
theorem putR_1 {S : xMS} {rr j : Nat} {e par sc rk f l : Int32} : putR S rr e par sc rk f l 1 j = ruUp (S 1) rr e par sc rk f l j := by
  simp only [putR, ruUp, ruB, mset, mzero, true_and, false_and, if_true, if_false]
  repeat' split
  all_goals first | rfl | (exfalso; omega)
theorem putT_1 {S : xMS} {r t j : Nat} (h7 : S 1 (23 + 20 * r + 7) = nI t) : ∀ k, putT S r t k 1 j = tsUp (S 1) r t (S 5) k j
  | 0 => by
    unfold putT tsUp
    split
    · next e => rw [e, h7, Nat.add_zero]
    · rw [if_neg (by omega)]
  | k + 1 => by
    have ih := putT_1 (j := j) h7 k
    unfold putT
    simp only [mset, mcpy, true_and, if_true]
    rw [putT_q (by decide)]
    unfold va_cpy
    rw [ih]
    unfold tsUp
    repeat' split
    all_goals first | rfl | (exfalso; omega) | (congr 1; omega)
theorem wf_t7 {g : xG} {x p lk fa ka la n rr ww : Nat} {Z : xAd} {S : xMS} (hM : xMn g x p lk fa ka la Z S n rr ww) {r : Nat} (hr : r < rr) : S 1 (23 + 20 * r + 7) = nI (aT Z r).length ∧ (aT Z r).length ≤ 4 ∧ WFsg S r (aT Z r).length := by
  have e := (hM.P.ru hr).2.2.2.2.2.2.2.2.2.1.1
  have w := hM.P.wf.ru hr
  obtain ⟨w1, w2⟩ := w.2.2.2.2.2.1
  refine ⟨by rw [e]; exact w1, by omega, fun k hk => ?_⟩
  rw [e] at hk
  have q := (w.2.2.2.2.2.2.2.2 k hk).2.1
  rw [show 23 + 20 * r + 8 + 3 * k + 1 = 23 + 20 * r + (8 + 3 * k + 1) by omega]
  exact q
theorem inR_f {v a b : Int32} (h : ¬ inR v a b = true) : inR v a b = false := by simpa using h
theorem okR_ex {rk f l : Int32} (h : okRule rk f l = true) : ∃ a b c, a < 10 ∧ b < 1000 ∧ c < 1000 ∧ rk = nI a ∧ f = nI b ∧ l = nI c := by
  unfold okRule at h
  simp only [Bool.and_eq_true] at h
  obtain ⟨h1, h2, h3⟩ := h
  obtain ⟨a, ha, e1⟩ := inR_nat (by decide) h1
  obtain ⟨b, hb, e2⟩ := inR_nat (by decide) h2
  obtain ⟨c, hc, e3⟩ := inR_nat (by decide) h3
  exact ⟨a, b, c, by omega, by omega, by omega, e1, e2, e3⟩
theorem okT_ex {f sg dg : Int32} (h : okTest f sg dg = true) : ∃ a b c, a < 6 ∧ b < 4 ∧ c < 10 ∧ f = nI a ∧ sg = nI b ∧ dg = nI c := by
  unfold okTest at h
  simp only [Bool.and_eq_true] at h
  obtain ⟨h1, h2, h3⟩ := h
  obtain ⟨a, ha, e1⟩ := inR_nat (by decide) h1
  obtain ⟨b, hb, e2⟩ := inR_nat (by decide) h2
  obtain ⟨c, hc, e3⟩ := inR_nat (by decide) h3
  exact ⟨a, b, c, by omega, by omega, by omega, e1, e2, e3⟩
theorem bAg.one {S : xMS} {f sg dg : Int32} : bAg S (oneT S f sg dg) := bAg.m11 (bAg.m5 (bAg.m5 (bAg.m5 (bAg.m11 bAg.m6))))

theorem J_scope {g : xG} {x : Nat} {S : xMS} (h : xST g x S) (hK : xKs g) {v : Int32} : jOp Value.int M_X1_scope M_X6_scope [(23, 1), (24, 2)] [.int v] g x S := by
  obtain ⟨p, lk, fa, ka, la, Z, n, rr, ww, dq, da, hh, ps, sv, hp⟩ := h.p
  have hM := hp.M
  have W := hM.P.wf
  have n10 := W.n10
  have r16 := W.r16
  have w12 := W.w12
  have h0 := W.s0
  have h1 := W.s1
  have h2 := W.s2
  have p8 := hp.Pa.2.2.2.1
  have hpm := hp.Pa.2.2.1
  have h14 := hp.1
  have hPa : xr g x 2 = some dq ∧ xAD g 7 dq da hh ps ∧ True ∧ ps.length ≤ 8 := ⟨hp.Pa.1, hp.Pa.2.1, trivial, p8⟩
  have q : ∀ (d : Nat) (g1 : xG) (m : Nat), xMod g1 m → XM M_X6_scope (d + 90) [.ref m, .int v] (xWith g1 m S) (xOne (some (.int (opScope S n ps.length v).1)) (xWith g1 m (opScope S n ps.length v).2)) := fun d g1 m hm => SP_X6_scope (d := d + 88) hm n n10 h0 ps.length p8 hpm
  by_cases c1 : inR v (nI 0) (nI n - nI 1) = true
  · obtain ⟨k, hk, rfl⟩ := inR_ex (by omega) c1
    by_cases c2 : n = 10
    · have e : opScope S n ps.length (nI k) = (nI 0, mset S 0 6 (nI 2)) := by unfold opScope; rw [h0, if_neg (by rw [c1]; decide), if_pos c2]
      simp only [e] at q
      exact .inr ⟨24, 2, nI 0, S, by decide, hp.thr (fun d => SP_X1_scope_F2 (d := d + 10) hM hk c2), jM.one (q) rfl (xAg2.m6)⟩
    · have e : opScope S n ps.length (nI k) = (nI n, mset (mset (mset (push (mset S 0 6 (nI 0)) ps.length) 1 (3 + 2 * n) (nI k)) 1 (3 + 2 * n + 1) (-1)) 1 0 (nI (n + 1))) := by unfold opScope; rw [h0, if_neg (by rw [c1]; decide), if_neg c2]
      simp only [e] at q
      exact .inl ⟨nI n, _, hp.chd (s' := scUp (S 1) n k) (n' := n + 1) (rr' := rr) (ww' := ww) (pAg.u1 (pAg.pu bAg.m6) (fun a ha => by rw [mset_1 ha, mset_1 ha, mset_1 ha])) (by
        intro j hj
        simp only [scUp, mset, mzero, push_1, true_and, false_and, if_true, if_false]
        repeat' split
        all_goals first | rfl | (exfalso; omega) | (congr 1; omega)) (fun d => SP_X1_scope (d := d + 10) hM hPa hk (by omega)), jM.one (q) (by simp [mset, push_0]) (xAg2.rf)⟩
  · have e : opScope S n ps.length v = (nI 0, mset S 0 6 (nI 1)) := by unfold opScope; rw [h0, if_pos (inR_f c1)]
    simp only [e] at q
    exact .inr ⟨23, 1, nI 0, S, by decide, hp.thr (fun d => SP_X1_scope_F (e := 0) (d := d + 10) hM c1), jM.one (q) rfl (xAg2.m6)⟩
theorem J_setDefault {g : xG} {x : Nat} {S : xMS} (h : xST g x S) (hK : xKs g) {v e : Int32} : jOp Value.int M_X1_setDefault M_X6_setDefault [(23, 1), (22, 2)] [.int v, .int e] g x S := by
  obtain ⟨p, lk, fa, ka, la, Z, n, rr, ww, dq, da, hh, ps, sv, hp⟩ := h.p
  have hM := hp.M
  have W := hM.P.wf
  have n10 := W.n10
  have r16 := W.r16
  have w12 := W.w12
  have h0 := W.s0
  have h1 := W.s1
  have h2 := W.s2
  have p8 := hp.Pa.2.2.2.1
  have hpm := hp.Pa.2.2.1
  have h14 := hp.1
  have hPa : xr g x 2 = some dq ∧ xAD g 7 dq da hh ps ∧ True ∧ ps.length ≤ 8 := ⟨hp.Pa.1, hp.Pa.2.1, trivial, p8⟩
  by_cases c1 : inR v (nI 0) (nI n - nI 1) = true
  · obtain ⟨k, hk, rfl⟩ := inR_ex (by omega) c1
    have q : ∀ (d : Nat) (g1 : xG) (m : Nat), xMod g1 m → XM M_X6_setDefault (d + 90) [.ref m, .int (nI k), .int e] (xWith g1 m S) (xOne (some (.int (opSetDef S ps.length k e).1)) (xWith g1 m (opSetDef S ps.length k e).2)) := fun d g1 m hm => SP_X6_setDefault (d := d + 88) hm n n10 h0 ps.length p8 hpm k hk e
    by_cases c2 : inR e (if k = 0 then nI 0 else -1) (nI 2) = true
    · have ee : opSetDef S ps.length k e = (S 1 (3 + 2 * k + 1), mset (push (mset S 0 6 (nI 0)) ps.length) 1 (3 + 2 * k + 1) e) := by unfold opSetDef; rw [if_neg (by rw [c2]; decide)]
      simp only [ee] at q
      exact .inl ⟨S 1 (3 + 2 * k + 1), _, hp.chd (s' := sUp (S 1) (3 + 2 * k + 1) e) (n' := n) (rr' := rr) (ww' := ww) (pAg.u1 (pAg.pu bAg.m6) (fun a ha => by rw [mset_1 ha])) (by
        intro j hj
        simp only [sUp, mset, mzero, push_1, true_and, false_and, if_true, if_false]
        repeat' split
        all_goals first | rfl | (exfalso; omega) | (congr 1; omega)) (fun d => by have z := SP_X1_setDefault (d := d + 10) hM hPa hk c2; rw [show 4 + 2 * k = 3 + 2 * k + 1 by omega] at z; exact z), jM.one (q) (by simp [mset, push_0]) (xAg2.rf)⟩
    · have ee : opSetDef S ps.length k e = (nI 0, mset S 0 6 (nI 2)) := by unfold opSetDef; rw [if_pos (inR_f c2)]
      simp only [ee] at q
      exact .inr ⟨22, 2, nI 0, S, by decide, hp.thr (fun d => SP_X1_setDefault_F2 (d := d + 10) hM hk c2), jM.one (q) rfl (xAg2.m6)⟩
  · exact .inr ⟨23, 1, nI 0, S, by decide, hp.thr (fun d => SP_X1_setDefault_F (d := d + 10) hM c1), jM.one (fun d g1 m hm => SP_X6_setDefault_F (d := d + 88) hm n n10 h0 v c1 e) rfl (xAg2.m6)⟩
theorem J_setFactor {g : xG} {x : Nat} {S : xMS} (h : xST g x S) (hK : xKs g) {v e : Int32} : jOp Value.int M_X1_setFactor M_X6_setFactor [(23, 1), (22, 2)] [.int v, .int e] g x S := by
  obtain ⟨p, lk, fa, ka, la, Z, n, rr, ww, dq, da, hh, ps, sv, hp⟩ := h.p
  have hM := hp.M
  have W := hM.P.wf
  have n10 := W.n10
  have r16 := W.r16
  have w12 := W.w12
  have h0 := W.s0
  have h1 := W.s1
  have h2 := W.s2
  have p8 := hp.Pa.2.2.2.1
  have hpm := hp.Pa.2.2.1
  have h14 := hp.1
  have hPa : xr g x 2 = some dq ∧ xAD g 7 dq da hh ps ∧ True ∧ ps.length ≤ 8 := ⟨hp.Pa.1, hp.Pa.2.1, trivial, p8⟩
  by_cases c1 : inR v (nI 0) (nI rr - nI 1) = true
  · obtain ⟨r, hr, rfl⟩ := inR_ex (by omega) c1
    have q : ∀ (d : Nat) (g1 : xG) (m : Nat), xMod g1 m → XM M_X6_setFactor (d + 90) [.ref m, .int (nI r), .int e] (xWith g1 m S) (xOne (some (.int (opFactor S r ps.length e).1)) (xWith g1 m (opFactor S r ps.length e).2)) := fun d g1 m hm => SP_X6_setFactor (d := d + 88) hm rr r16 h1 ps.length p8 hpm r hr e
    by_cases c2 : inR e (nI 0) (nI 1000) = true
    · have ee : opFactor S r ps.length e = (S 1 (23 + 20 * r + 6), mset (push (mset S 0 6 (nI 0)) ps.length) 1 (23 + 20 * r + 6) e) := by unfold opFactor; rw [if_neg (by rw [c2]; decide)]
      simp only [ee] at q
      obtain ⟨f, hf, rfl⟩ := inR_nat (by decide) c2
      exact .inl ⟨S 1 (23 + 20 * r + 6), _, hp.chd (s' := sUp (S 1) (23 + 20 * r + 6) (nI f)) (n' := n) (rr' := rr) (ww' := ww) (pAg.u1 (pAg.pu bAg.m6) (fun a ha => by rw [mset_1 ha])) (by
        intro j hj
        simp only [sUp, mset, mzero, push_1, true_and, false_and, if_true, if_false]
        repeat' split
        all_goals first | rfl | (exfalso; omega) | (congr 1; omega)) (fun d => SP_X1_setFactor (d := d + 10) hM hPa hr hf), jM.one (q) (by simp [mset, push_0]) (xAg2.rf)⟩
    · have ee : opFactor S r ps.length e = (nI 0, mset S 0 6 (nI 2)) := by unfold opFactor; rw [if_pos (inR_f c2)]
      simp only [ee] at q
      exact .inr ⟨22, 2, nI 0, S, by decide, hp.thr (fun d => SP_X1_setFactor_F2 (d := d + 10) hM hr c2), jM.one (q) rfl (xAg2.m6)⟩
  · exact .inr ⟨23, 1, nI 0, S, by decide, hp.thr (fun d => SP_X1_setFactor_F (d := d + 10) hM c1), jM.one (fun d g1 m hm => SP_X6_setFactor_F (d := d + 88) hm rr r16 h1 v c1 e) rfl (xAg2.m6)⟩
theorem J_end {g : xG} {x : Nat} {S : xMS} (h : xST g x S) (hK : xKs g) {v e : Int32} : jOp Value.int M_X1_end M_X6_end [(23, 1), (22, 2), (26, 3)] [.int v, .int e] g x S := by
  obtain ⟨p, lk, fa, ka, la, Z, n, rr, ww, dq, da, hh, ps, sv, hp⟩ := h.p
  have hM := hp.M
  have W := hM.P.wf
  have n10 := W.n10
  have r16 := W.r16
  have w12 := W.w12
  have h0 := W.s0
  have h1 := W.s1
  have h2 := W.s2
  have p8 := hp.Pa.2.2.2.1
  have hpm := hp.Pa.2.2.1
  have h14 := hp.1
  have hPa : xr g x 2 = some dq ∧ xAD g 7 dq da hh ps ∧ True ∧ ps.length ≤ 8 := ⟨hp.Pa.1, hp.Pa.2.1, trivial, p8⟩
  by_cases c1 : inR v (nI 0) (nI rr - nI 1) = true
  · obtain ⟨r, hr, rfl⟩ := inR_ex (by omega) c1
    have q : ∀ (d : Nat) (g1 : xG) (m : Nat), xMod g1 m → XM M_X6_end (d + 90) [.ref m, .int (nI r), .int e] (xWith g1 m S) (xOne (some (.int (opEnd S r ps.length e).1)) (xWith g1 m (opEnd S r ps.length e).2)) := fun d g1 m hm => SP_X6_end (d := d + 88) hm rr r16 h1 ps.length p8 hpm r hr e
    by_cases c2 : inR e (nI 0) (nI 999) = true
    · by_cases c3 : e < S 1 (23 + 20 * r + 3)
      · have ew : endW (S 1) r e = (3, S 1 (23 + 20 * r + 3)) := by unfold endW; rw [if_pos c3]
        have ee : opEnd S r ps.length e = (nI 0, mset (mset (mset (mset S 0 6 (nI 0)) 0 6 (nI 3)) 0 7 (nI 3)) 0 8 (S 1 (23 + 20 * r + 3))) := by unfold opEnd; rw [if_neg (by rw [c2]; decide), if_pos c3]
        simp only [ee] at q
        obtain ⟨f, hf, rfl⟩ := inR_nat (by decide) c2
        exact .inr ⟨26, 3, nI 0, _, by decide, hp.rf (fun d => by have z := SP_X1_end_R (d := d + 10) hM hr (f := f) (by omega) (by rw [ew]; exact Nat.succ_ne_zero 2); rw [ew] at z; exact z), jM.one (q) rfl (⟨⟨rfl, rfl, rfl⟩, ⟨rfl, rfl, rfl, rfl, rfl⟩, ⟨rfl, rfl, rfl⟩, rfl, rfl, rfl, rfl, rfl, rfl⟩)⟩
      · by_cases c4 : S 1 (23 + 20 * r + 4) < e
        · have ew : endW (S 1) r e = (8, S 1 (23 + 20 * r + 4)) := by unfold endW; rw [if_neg c3, if_pos c4]
          have ee : opEnd S r ps.length e = (nI 0, mset (mset (mset (mset S 0 6 (nI 0)) 0 6 (nI 3)) 0 7 (nI 8)) 0 8 (S 1 (23 + 20 * r + 4))) := by unfold opEnd; rw [if_neg (by rw [c2]; decide), if_neg c3, if_pos c4]
          simp only [ee] at q
          obtain ⟨f, hf, rfl⟩ := inR_nat (by decide) c2
          exact .inr ⟨26, 3, nI 0, _, by decide, hp.rf (fun d => by have z := SP_X1_end_R (d := d + 10) hM hr (f := f) (by omega) (by rw [ew]; exact Nat.succ_ne_zero 7); rw [ew] at z; exact z), jM.one (q) rfl (⟨⟨rfl, rfl, rfl⟩, ⟨rfl, rfl, rfl, rfl, rfl⟩, ⟨rfl, rfl, rfl⟩, rfl, rfl, rfl, rfl, rfl, rfl⟩)⟩
        · have ew : endW (S 1) r e = (0, nI 0) := by unfold endW; rw [if_neg c3, if_neg c4]
          have ee : opEnd S r ps.length e = (S 1 (23 + 20 * r + 4), mset (push (mset S 0 6 (nI 0)) ps.length) 1 (23 + 20 * r + 4) e) := by unfold opEnd; rw [if_neg (by rw [c2]; decide), if_neg c3, if_neg c4]
          simp only [ee] at q
          obtain ⟨f, hf, rfl⟩ := inR_nat (by decide) c2
          exact .inl ⟨S 1 (23 + 20 * r + 4), _, hp.chd (s' := sUp (S 1) (23 + 20 * r + 4) (nI f)) (n' := n) (rr' := rr) (ww' := ww) (pAg.u1 (pAg.pu bAg.m6) (fun a ha => by rw [mset_1 ha])) (by
        intro j hj
        simp only [sUp, mset, mzero, push_1, true_and, false_and, if_true, if_false]
        repeat' split
        all_goals first | rfl | (exfalso; omega) | (congr 1; omega)) (fun d => SP_X1_end (d := d + 10) hM hPa hr (f := f) (by omega) (by rw [ew])), jM.one (q) (by simp [mset, push_0]) (xAg2.rf)⟩
    · have ee : opEnd S r ps.length e = (nI 0, mset S 0 6 (nI 2)) := by unfold opEnd; rw [if_pos (inR_f c2)]
      simp only [ee] at q
      exact .inr ⟨22, 2, nI 0, S, by decide, hp.thr (fun d => SP_X1_end_F2 (d := d + 10) hM hr c2), jM.one (q) rfl (xAg2.m6)⟩
  · exact .inr ⟨23, 1, nI 0, S, by decide, hp.thr (fun d => SP_X1_end_F (d := d + 10) hM c1), jM.one (fun d g1 m hm => SP_X6_end_F (d := d + 88) hm rr r16 h1 v c1 e) rfl (xAg2.m6)⟩
theorem J_rule {g : xG} {x : Nat} {S : xMS} (h : xST g x S) (hK : xKs g) {e v rk f l : Int32} : jOp Value.int M_X1_rule M_X6_rule [(23, 1), (22, 2), (26, 3)] [.int e, .int v, .int rk, .int f, .int l] g x S := by
  obtain ⟨p, lk, fa, ka, la, Z, n, rr, ww, dq, da, hh, ps, sv, hp⟩ := h.p
  have hM := hp.M
  have W := hM.P.wf
  have n10 := W.n10
  have r16 := W.r16
  have w12 := W.w12
  have h0 := W.s0
  have h1 := W.s1
  have h2 := W.s2
  have p8 := hp.Pa.2.2.2.1
  have hpm := hp.Pa.2.2.1
  have h14 := hp.1
  have hPa : xr g x 2 = some dq ∧ xAD g 7 dq da hh ps ∧ True ∧ ps.length ≤ 8 := ⟨hp.Pa.1, hp.Pa.2.1, trivial, p8⟩
  by_cases c1 : inR v (nI 0) (nI n - nI 1) = true
  · obtain ⟨k, hk, rfl⟩ := inR_ex (by omega) c1
    have q : ∀ (d : Nat) (g1 : xG) (m : Nat), xMod g1 m → XM M_X6_rule (d + 90) [.ref m, .int e, .int (nI k), .int rk, .int f, .int l] (xWith g1 m S) (xOne (some (.int (opRule S rr ps.length e (nI k) rk f l).1)) (xWith g1 m (opRule S rr ps.length e (nI k) rk f l).2)) := fun d g1 m hm => SP_X6_rule (d := d + 85) hm n n10 h0 rr r16 h1 ps.length p8 hpm k hk e rk f l
    by_cases c2 : (inR e (nI 0) (nI 2) && okRule rk f l) = true
    · have c2' := c2
      simp only [Bool.and_eq_true] at c2'
      obtain ⟨qe, hqe, rfl⟩ := inR_nat (by decide) c2'.1
      obtain ⟨a, b, c, ha, hb, hc, rfl, rfl, rfl⟩ := okR_ex c2'.2
      have c2f : ¬ (inR (nI qe) (nI 0) (nI 2) && okRule (nI a) (nI b) (nI c)) = false := by rw [c2]; decide
      by_cases c3 : (hind0 rr (nI b) (nI c)).1 = 0
      · have ee : opRule S rr ps.length (nI qe) (nI k) (nI a) (nI b) (nI c) = (nI rr, putR (push (mset (mset S 0 6 (nI 0)) 0 9 (hind0 rr (nI b) (nI c)).2) ps.length) rr (nI qe) (-1) (nI k) (nI a) (nI b) (nI c)) := by unfold opRule; rw [if_neg c2f]; unfold opAdd; rw [if_pos c3]
        simp only [ee] at q
        exact .inl ⟨nI rr, _, hp.chd (pAg.u1 (pAg.pu (bAg.m9 bAg.m6)) (fun a ha => putR_q ha)) (fun j hj => by rw [putR_1, push_1]; rfl) (fun d => SP_X1_rule (d := d + 10) hM hPa hk ha hb hc ⟨qe, by omega, rfl⟩ c3), jM.one (q) (by rw [putR_0, push_0, if_neg (by decide)]; rfl) (xAg2.rf)⟩
      · have ee : opRule S rr ps.length (nI qe) (nI k) (nI a) (nI b) (nI c) = (nI 0, mset (mset (mset (mset (mset S 0 6 (nI 0)) 0 9 (hind0 rr (nI b) (nI c)).2) 0 6 (nI 3)) 0 7 (nI (hind0 rr (nI b) (nI c)).1)) 0 8 (hind0 rr (nI b) (nI c)).2) := by unfold opRule; rw [if_neg c2f]; unfold opAdd; rw [if_neg c3]
        simp only [ee] at q
        exact .inr ⟨26, 3, nI 0, _, by decide, hp.rf (fun d => SP_X1_rule_R (d := d + 10) hM hk ha hb hc ⟨qe, by omega, rfl⟩ c3), jM.one (q) rfl (⟨⟨rfl, rfl, rfl⟩, ⟨rfl, rfl, rfl, rfl, rfl⟩, ⟨rfl, rfl, rfl⟩, rfl, rfl, rfl, rfl, rfl, rfl⟩)⟩
    · have c2f : (inR e (nI 0) (nI 2) && okRule rk f l) = false := by simpa using c2
      have ee : opRule S rr ps.length e (nI k) rk f l = (nI 0, mset S 0 6 (nI 2)) := by unfold opRule; rw [if_pos c2f]
      simp only [ee] at q
      exact .inr ⟨22, 2, nI 0, S, by decide, hp.thr (fun d => SP_X1_rule_F2 (d := d + 10) hM hk c2f), jM.one (q) rfl (xAg2.m6)⟩
  · exact .inr ⟨23, 1, nI 0, S, by decide, hp.thr (fun d => SP_X1_rule_F (d := d + 10) hM c1), jM.one (fun d g1 m hm => SP_X6_rule_F (d := d + 88) hm n n10 h0 v c1 e rk f l) rfl (xAg2.m6)⟩
theorem J_except {g : xG} {x : Nat} {S : xMS} (h : xST g x S) (hK : xKs g) {u v rk f l : Int32} : jOp Value.int M_X1_except M_X6_except [(23, 1), (22, 2), (26, 3)] [.int u, .int v, .int rk, .int f, .int l] g x S := by
  obtain ⟨p, lk, fa, ka, la, Z, n, rr, ww, dq, da, hh, ps, sv, hp⟩ := h.p
  have hM := hp.M
  have W := hM.P.wf
  have n10 := W.n10
  have r16 := W.r16
  have w12 := W.w12
  have h0 := W.s0
  have h1 := W.s1
  have h2 := W.s2
  have p8 := hp.Pa.2.2.2.1
  have hpm := hp.Pa.2.2.1
  have h14 := hp.1
  have hPa : xr g x 2 = some dq ∧ xAD g 7 dq da hh ps ∧ True ∧ ps.length ≤ 8 := ⟨hp.Pa.1, hp.Pa.2.1, trivial, p8⟩
  by_cases c0 : inR u (nI 0) (nI rr - nI 1) = true
  · obtain ⟨q0, hq0, rfl⟩ := inR_ex (by omega) c0
    by_cases c1 : inR v (nI 0) (nI n - nI 1) = true
    · obtain ⟨k, hk, rfl⟩ := inR_ex (by omega) c1
      have q : ∀ (d : Nat) (g1 : xG) (m : Nat), xMod g1 m → XM M_X6_except (d + 90) [.ref m, .int (nI q0), .int (nI k), .int rk, .int f, .int l] (xWith g1 m S) (xOne (some (.int (opExcept S rr ps.length q0 k rk f l).1)) (xWith g1 m (opExcept S rr ps.length q0 k rk f l).2)) := fun d g1 m hm => SP_X6_except (d := d + 85) hm n n10 h0 rr r16 h1 ps.length p8 hpm W.o W.p W.sc q0 k hq0 hk rk f l
      by_cases c2 : okRule rk f l = true
      · have c2' := c2
        obtain ⟨a, b, c, ha, hb, hc, rfl, rfl, rfl⟩ := okR_ex c2'
        have c2f : ¬ okRule (nI a) (nI b) (nI c) = false := by rw [c2]; decide
        by_cases c3 : (hindQ (S 1) rr q0 k (nI b) (nI c)).1 = 0
        · have ee : opExcept S rr ps.length q0 k (nI a) (nI b) (nI c) = (nI rr, putR (push (mset (mset S 0 6 (nI 0)) 0 9 (hindQ (S 1) rr q0 k (nI b) (nI c)).2) ps.length) rr (-1) (nI q0) (nI k) (nI a) (nI b) (nI c)) := by unfold opExcept; rw [if_neg c2f]; unfold opAdd; rw [if_pos c3]
          simp only [ee] at q
          exact .inl ⟨nI rr, _, hp.chd (pAg.u1 (pAg.pu (bAg.m9 bAg.m6)) (fun a ha => putR_q ha)) (fun j hj => by rw [putR_1, push_1]; rfl) (fun d => SP_X1_except (d := d + 10) hM hPa hq0 hk ha hb hc c3), jM.one (q) (by rw [putR_0, push_0, if_neg (by decide)]; rfl) (xAg2.rf)⟩
        · have ee : opExcept S rr ps.length q0 k (nI a) (nI b) (nI c) = (nI 0, mset (mset (mset (mset (mset S 0 6 (nI 0)) 0 9 (hindQ (S 1) rr q0 k (nI b) (nI c)).2) 0 6 (nI 3)) 0 7 (nI (hindQ (S 1) rr q0 k (nI b) (nI c)).1)) 0 8 (hindQ (S 1) rr q0 k (nI b) (nI c)).2) := by unfold opExcept; rw [if_neg c2f]; unfold opAdd; rw [if_neg c3]
          simp only [ee] at q
          exact .inr ⟨26, 3, nI 0, _, by decide, hp.rf (fun d => SP_X1_except_R (d := d + 10) hM hq0 hk ha hb hc c3), jM.one (q) rfl (⟨⟨rfl, rfl, rfl⟩, ⟨rfl, rfl, rfl, rfl, rfl⟩, ⟨rfl, rfl, rfl⟩, rfl, rfl, rfl, rfl, rfl, rfl⟩)⟩
      · have c2f : okRule rk f l = false := by simpa using c2
        have ee : opExcept S rr ps.length q0 k rk f l = (nI 0, mset S 0 6 (nI 2)) := by unfold opExcept; rw [if_pos c2f]
        simp only [ee] at q
        exact .inr ⟨22, 2, nI 0, S, by decide, hp.thr (fun d => SP_X1_except_F3 (d := d + 10) hM hq0 hk c2f), jM.one (q) rfl (xAg2.m6)⟩
    · exact .inr ⟨23, 1, nI 0, S, by decide, hp.thr (fun d => SP_X1_except_F2 (d := d + 10) hM hq0 c1), jM.one (fun d g1 m hm => SP_X6_except_F2 (d := d + 88) hm n n10 h0 rr r16 h1 q0 hq0 v c1 rk f l) rfl (xAg2.m6)⟩
  · exact .inr ⟨23, 1, nI 0, S, by decide, hp.thr (fun d => SP_X1_except_F (d := d + 10) hM c0), jM.one (fun d g1 m hm => SP_X6_except_F (d := d + 88) hm rr r16 h1 u c0 v rk f l) rfl (xAg2.m6)⟩
theorem ts_u1 {s : Nat → Int32} {r t : Nat} {a b : Nat → Int32} {m j : Nat} (h : ∀ i, i < 3 * m → a i = b i) : tsUp s r t a m j = tsUp s r t b m j := by
  unfold tsUp
  split
  · rfl
  · split
    · exact h _ (by omega)
    · rfl
theorem one_u1 {S : xMS} {f sg dg : Int32} : ∀ i, i < 3 * 1 → oneT S f sg dg 5 i = u1 f sg dg i
  | 0, _ => rfl
  | 1, _ => rfl
  | 2, _ => rfl
  | i + 3, h => absurd h (by omega)
theorem allK_one (P : Nat → Bool) : allK P 1 = P 0 := by
  show (true && P 0) = P 0
  exact Bool.true_and _
theorem FAr_one {S : xMS} {r t : Nat} {f sg dg : Int32} : FAr (oneT S f sg dg) r t 1 = FAc (S 1) r t (u1 f sg dg) 1 := by
  funext f' v
  have e : tM (oneT S f sg dg) f' v 0 = tOK (u1 f sg dg) (3 * 0) f' v := by
    unfold tM tOK aN
    rw [one_u1 (3 * 0) (by decide), one_u1 (3 * 0 + 1) (by decide), one_u1 (3 * 0 + 2) (by decide)]
  have e1 : tR (oneT S f sg dg) r f' v = fun j => tOK (S 1) (23 + 20 * r + 8 + 3 * j) f' v := by
    funext j
    unfold tR
    rw [(bAg.one (f := f) (sg := sg) (dg := dg)).1.1]
  have e2 : allK (tM (oneT S f sg dg) f' v) 1 = allK (fun k => tOK (u1 f sg dg) (3 * k) f' v) 1 := by
    rw [allK_one, allK_one]
    exact e
  unfold FAr FAc
  rw [e1, e2]
theorem J_test {g : xG} {x : Nat} {S : xMS} (h : xST g x S) (hK : xKs g) {v f sg dg : Int32} : jOp Value.int M_X1_test M_X6_test [(23, 1), (22, 2), (26, 3)] [.int v, .int f, .int sg, .int dg] g x S := by
  obtain ⟨p, lk, fa, ka, la, Z, n, rr, ww, dq, da, hh, ps, sv, hp⟩ := h.p
  have hM := hp.M
  have W := hM.P.wf
  have n10 := W.n10
  have r16 := W.r16
  have w12 := W.w12
  have h0 := W.s0
  have h1 := W.s1
  have h2 := W.s2
  have p8 := hp.Pa.2.2.2.1
  have hpm := hp.Pa.2.2.1
  have h14 := hp.1
  have hPa : xr g x 2 = some dq ∧ xAD g 7 dq da hh ps ∧ True ∧ ps.length ≤ 8 := ⟨hp.Pa.1, hp.Pa.2.1, trivial, p8⟩
  by_cases c1 : inR v (nI 0) (nI rr - nI 1) = true
  · obtain ⟨r, hr, rfl⟩ := inR_ex (by omega) c1
    obtain ⟨t7, t4, tW⟩ := wf_t7 hM hr
    have q : ∀ (d : Nat) (g1 : xG) (m : Nat), xMod g1 m → XM M_X6_test (d + 90) [.ref m, .int (nI r), .int f, .int sg, .int dg] (xWith g1 m S) (xOne (some (.int (opTest S r (aT Z r).length ps.length f sg dg).1)) (xWith g1 m (opTest S r (aT Z r).length ps.length f sg dg).2)) := fun d g1 m hm => SP_X6_test (d := d + 84) hm rr r16 h1 ps.length p8 hpm r _ hr t4 t7 tW f sg dg
    by_cases c2 : okTest f sg dg = true
    · have c2' := c2
      obtain ⟨a, b, c, ha, hb, hc, rfl, rfl, rfl⟩ := okT_ex c2'
      have c2f : ¬ okTest (nI a) (nI b) (nI c) = false := by rw [c2]; decide
      by_cases c3 : (hindT (FAc (S 1) r (aT Z r).length (u1 (nI a) (nI b) (nI c)) 1) ((aT Z r).length + 1)).1 = 0
      · have ee : opTest S r (aT Z r).length ps.length (nI a) (nI b) (nI c) = (nI ((aT Z r).length + 1), putT (push (mset (oneT S (nI a) (nI b) (nI c)) 0 9 (hindT (FAc (S 1) r (aT Z r).length (u1 (nI a) (nI b) (nI c)) 1) ((aT Z r).length + 1)).2) ps.length) r (aT Z r).length 1) := by unfold opTest; rw [if_neg c2f]; unfold opAddT; rw [FAr_one, if_pos c3]
        simp only [ee] at q
        exact .inl ⟨nI ((aT Z r).length + 1), _, hp.chd (pAg.u1 (pAg.pu (bAg.m9 bAg.one)) (fun a ha => putT_q ha)) (fun j hj => by rw [putT_1 (by rw [push_1]; exact t7), push_1, push_q (by decide) (by decide) (by decide)]; exact ts_u1 one_u1) (fun d => SP_X1_test (d := d + 10) hM hPa hr ha hb hc c3), jM.one (q) (by rw [putT_q (by decide), push_0, if_neg (by decide)]; rfl) (xAg2.rf)⟩
      · have ee : opTest S r (aT Z r).length ps.length (nI a) (nI b) (nI c) = (nI 0, mset (mset (mset (mset (oneT S (nI a) (nI b) (nI c)) 0 9 (hindT (FAc (S 1) r (aT Z r).length (u1 (nI a) (nI b) (nI c)) 1) ((aT Z r).length + 1)).2) 0 6 (nI 3)) 0 7 (nI (hindT (FAc (S 1) r (aT Z r).length (u1 (nI a) (nI b) (nI c)) 1) ((aT Z r).length + 1)).1)) 0 8 (hindT (FAc (S 1) r (aT Z r).length (u1 (nI a) (nI b) (nI c)) 1) ((aT Z r).length + 1)).2) := by unfold opTest; rw [if_neg c2f]; unfold opAddT; rw [FAr_one, if_neg c3]
        simp only [ee] at q
        exact .inr ⟨26, 3, nI 0, _, by decide, hp.rfO (by omega) (fun d => SP_X1_test_R (d := d + 10) hM hPa hr ha hb hc c3), jM.one (q) rfl (⟨⟨rfl, rfl, rfl⟩, ⟨rfl, rfl, rfl, rfl, rfl⟩, ⟨rfl, rfl, rfl⟩, rfl, rfl, rfl, rfl, rfl, rfl⟩)⟩
    · have c2f : okTest f sg dg = false := by simpa using c2
      have ee : opTest S r (aT Z r).length ps.length f sg dg = (nI 0, mset S 0 6 (nI 2)) := by unfold opTest; rw [if_pos c2f]
      simp only [ee] at q
      exact .inr ⟨22, 2, nI 0, S, by decide, hp.thr (fun d => SP_X1_test_F2 (d := d + 10) hM hr c2f), jM.one (q) rfl (xAg2.m6)⟩
  · exact .inr ⟨23, 1, nI 0, S, by decide, hp.thr (fun d => SP_X1_test_F (d := d + 10) hM c1), jM.one (fun d g1 m hm => SP_X6_test_F (d := d + 88) hm rr r16 h1 v c1 f sg dg) rfl (xAg2.m6)⟩
theorem J_work {g : xG} {x : Nat} {S : xMS} (h : xST g x S) (hK : xKs g) {v day feats e : Int32} : jOp Value.int M_X1_work M_X6_work [(23, 1), (22, 2), (26, 3)] [.int v, .int day, .int feats, .int e] g x S := by
  obtain ⟨p, lk, fa, ka, la, Z, n, rr, ww, dq, da, hh, ps, sv, hp⟩ := h.p
  have hM := hp.M
  have W := hM.P.wf
  have n10 := W.n10
  have r16 := W.r16
  have w12 := W.w12
  have h0 := W.s0
  have h1 := W.s1
  have h2 := W.s2
  have p8 := hp.Pa.2.2.2.1
  have hpm := hp.Pa.2.2.1
  have h14 := hp.1
  have hPa : xr g x 2 = some dq ∧ xAD g 7 dq da hh ps ∧ True ∧ ps.length ≤ 8 := ⟨hp.Pa.1, hp.Pa.2.1, trivial, p8⟩
  by_cases c1 : inR v (nI 0) (nI n - nI 1) = true
  · obtain ⟨k, hk, rfl⟩ := inR_ex (by omega) c1
    have q : ∀ (d : Nat) (g1 : xG) (m : Nat), xMod g1 m → XM M_X6_work (d + 90) [.ref m, .int (nI k), .int day, .int feats, .int e] (xWith g1 m S) (xOne (some (.int (opWork S ww ps.length (nI k) day feats e).1)) (xWith g1 m (opWork S ww ps.length (nI k) day feats e).2)) := fun d g1 m hm => SP_X6_work (d := d + 87) hm n n10 h0 ww w12 h2 ps.length p8 hpm k hk day feats e
    by_cases c2 : (isCs day feats && inR e (nI 0) (nI 2)) = true
    · have c2' := c2
      simp only [Bool.and_eq_true, isCs] at c2'
      obtain ⟨a, ha, rfl⟩ := inR_nat (by decide) c2'.1.1
      obtain ⟨f, hf, rfl⟩ := inR_nat (by decide) c2'.1.2
      obtain ⟨q0, hq0, rfl⟩ := inR_nat (by decide) c2'.2
      have c2f : ¬ (isCs (nI a) (nI f) && inR (nI q0) (nI 0) (nI 2)) = false := by rw [c2]; decide
      by_cases c3 : ww = 12
      · have ew : workW ww = (10, nI 0) := by unfold workW; rw [if_pos c3]
        have ee : opWork S ww ps.length (nI k) (nI a) (nI f) (nI q0) = (nI 0, mset (mset (mset (mset S 0 6 (nI 0)) 0 6 (nI 3)) 0 7 (nI 10)) 0 8 (nI 0)) := by unfold opWork; rw [if_neg c2f, if_pos c3]
        simp only [ee] at q
        exact .inr ⟨26, 3, nI 0, _, by decide, hp.rf (fun d => by have z := SP_X1_work_R (d := d + 10) hM hk (a := a) (f := f) (q := q0) (by omega) (by omega) (by omega) c3; rw [ew] at z; exact z), jM.one (q) rfl (⟨⟨rfl, rfl, rfl⟩, ⟨rfl, rfl, rfl, rfl, rfl⟩, ⟨rfl, rfl, rfl⟩, rfl, rfl, rfl, rfl, rfl, rfl⟩)⟩
      · have ee : opWork S ww ps.length (nI k) (nI a) (nI f) (nI q0) = (nI ww, mset (mset (mset (mset (mset (push (mset S 0 6 (nI 0)) ps.length) 1 (343 + 4 * ww) (nI k)) 1 (343 + 4 * ww + 1) (nI a)) 1 (343 + 4 * ww + 2) (nI f)) 1 (343 + 4 * ww + 3) (nI q0)) 1 2 (nI (ww + 1))) := by unfold opWork; rw [if_neg c2f, if_neg c3]
        simp only [ee] at q
        exact .inl ⟨nI ww, _, hp.chd (s' := wkUp (S 1) ww (nI k) (nI a) (nI f) (nI q0)) (n' := n) (rr' := rr) (ww' := ww + 1) (pAg.u1 (pAg.pu bAg.m6) (fun a ha => by rw [mset_1 ha, mset_1 ha, mset_1 ha, mset_1 ha, mset_1 ha])) (by
        intro j hj
        simp only [wkUp, mset, mzero, push_1, true_and, false_and, if_true, if_false]
        repeat' split
        all_goals first | rfl | (exfalso; omega) | (congr 1; omega)) (fun d => SP_X1_work (d := d + 10) hM hPa hk (by omega) (by omega) (by omega) (by omega)), jM.one (q) (by simp [mset, push_0]) (xAg2.rf)⟩
    · have c2f : (isCs day feats && inR e (nI 0) (nI 2)) = false := by simpa using c2
      have ee : opWork S ww ps.length (nI k) day feats e = (nI 0, mset S 0 6 (nI 2)) := by unfold opWork; rw [if_pos c2f]
      simp only [ee] at q
      exact .inr ⟨22, 2, nI 0, S, by decide, hp.thr (fun d => SP_X1_work_F2 (d := d + 10) hM hk c2f), jM.one (q) rfl (xAg2.m6)⟩
  · exact .inr ⟨23, 1, nI 0, S, by decide, hp.thr (fun d => SP_X1_work_F (d := d + 10) hM c1), jM.one (fun d g1 m hm => SP_X6_work_F (d := d + 87) hm n n10 h0 v c1 day feats e) rfl (xAg2.m6)⟩
theorem J_dropCase {g : xG} {x : Nat} {S : xMS} (h : xST g x S) (hK : xKs g) {v : Int32} : jOp Value.int M_X1_dropCase M_X6_dropCase [(23, 1)] [.int v] g x S := by
  obtain ⟨p, lk, fa, ka, la, Z, n, rr, ww, dq, da, hh, ps, sv, hp⟩ := h.p
  have hM := hp.M
  have W := hM.P.wf
  have n10 := W.n10
  have r16 := W.r16
  have w12 := W.w12
  have h0 := W.s0
  have h1 := W.s1
  have h2 := W.s2
  have p8 := hp.Pa.2.2.2.1
  have hpm := hp.Pa.2.2.1
  have h14 := hp.1
  have hPa : xr g x 2 = some dq ∧ xAD g 7 dq da hh ps ∧ True ∧ ps.length ≤ 8 := ⟨hp.Pa.1, hp.Pa.2.1, trivial, p8⟩
  by_cases c1 : inR v (nI 0) (nI ww - nI 1) = true
  · obtain ⟨k, hk, rfl⟩ := inR_ex (by omega) c1
    exact .inl ⟨nI (ww - 1), _, hp.chd (s' := dropUp (S 1) ww k) (n' := n) (rr' := rr) (ww' := ww - 1) (pAg.u1 (pAg.pu bAg.m6) (fun a ha => by unfold opDrop mcpy; simp only [if_neg ha]; exact mset_1 ha)) (by
        intro j hj
        simp only [opDrop, mcpy, va_cpy, dropUp, mset, mzero, push_1, true_and, false_and, if_true, if_false]
        repeat' split
        all_goals first | rfl | (exfalso; omega) | (congr 1; omega)) (fun d => SP_X1_dropCase (d := d + 10) hM hPa hk), jM.one (fun d g1 m hm => SP_X6_dropCase (d := d + 88) hm ww w12 h2 ps.length p8 hpm k hk) (by simp [opDrop, mcpy, mset, push_0]) (xAg2.rf)⟩
  · exact .inr ⟨23, 1, nI 0, S, by decide, hp.thr (fun d => SP_X1_dropCase_F (d := d + 10) hM c1), jM.one (fun d g1 m hm => SP_X6_dropCase_F (d := d + 88) hm ww w12 h2 v c1) rfl (xAg2.m6)⟩
