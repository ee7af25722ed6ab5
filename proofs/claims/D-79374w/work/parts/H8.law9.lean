/-! LAW 9: ops on texts, the past -/
set_option maxRecDepth 100000

theorem J_append {g : xG} {x : Nat} {S : xMS} (h : xST g x S) (hK : xKs g) {c : Nat} (hc : c < 65536) : jOp Value.int M_X1_append M_X6_append [(24, 1)] [.int (nI c)] g x S := by
  obtain ⟨p, lk, fa, ka, la, Z, n, rr, ww, dq, da, hh, ps, sv, hp⟩ := h.p
  have hM := hp.M
  have W := hM.P.wf
  have n10 := W.n10
  have r16 := W.r16
  have w12 := W.w12
  have h0 := W.s0
  have h1 := W.s1
  have h2 := W.s2
  have p8 := hp.Pa.2.2.2.1
  have hpm := hp.Pa.2.2.1
  have h14 := hp.1
  have hPa : xr g x 2 = some dq ∧ xAD g 7 dq da hh ps ∧ True ∧ ps.length ≤ 8 := ⟨hp.Pa.1, hp.Pa.2.1, trivial, p8⟩
  have p0 := hM.P.p0
  have pl := hM.P.lt
  have hx := hp.xl
  have hlk : lk < xsz g := xlt (by rw [hM.B.lt]; decide)
  have hT := hp.Ot
  obtain ⟨tb, ln, ch, r8, hB, hln, h22, hch⟩ := hT.2.2.2.1
  have qr : ∀ (d : Nat) (g1 : xG) (m : Nat), xMod g1 m → XM M_X6_append (d + 90) [.ref m, .int (nI c)] (xWith g1 m S) (xOne (some (.int (opAppend S ln (nI c)).1)) (xWith g1 m (opAppend S ln (nI c)).2)) := fun d g1 m hm => SP_X6_append (d := d + 90) hm ln hln h22 (nI c) (isCh_n hc)
  by_cases e60 : ln = 60
  · have ee : opAppend S ln (nI c) = (nI 0, mset S 0 6 (nI 1)) := by unfold opAppend; rw [if_pos e60]
    simp only [ee] at qr
    exact .inr ⟨24, 1, nI 0, S, by decide, hp.thr (fun d => SP_X1_append_F (d := d + 10) hM.tx r8 hB hln (by omega)), jM.one qr rfl xAg2.m6⟩
  · have ee : opAppend S ln (nI c) = (nI (ln + 1), (mset (mset (mset S 0 6 (nI 0)) 12 ln (nI c)) 0 22 (nI (ln + 1)))) := by unfold opAppend; rw [if_neg e60]
    simp only [ee] at qr
    refine .inl ⟨nI (ln + 1), (mset (mset (mset S 0 6 (nI 0)) 12 ln (nI c)) 0 22 (nI (ln + 1))), fun d => (SP_X1_append (d := d + 10) hM.tx r8 hB hln hM.ox (by omega) hc).mono (fun rs g' ⟨e1, hB', F⟩ _ => ?_), jM.one qr rfl xAg2.rf⟩
    have nn : ∀ o, o ≠ 11 → ¬ oEq 11 o := fun o h h2 => h h2
    have nx : ¬ oEq 11 (xown g x) := by rw [hM.ox]; exact nn 1 (by decide)
    have hP := hM.P.fr F (fun o h1 h2 => by unfold oP at h1; unfold oEq at h2; omega) (nn 2 (by decide))
    have hLb := hM.B.fr F (fun j _ => F.r' hlk (by rw [hM.B.lko]; exact nn 6 (by decide)))
    refine ⟨e1, (hp.gen (S' := (mset (mset (mset S 0 6 (nI 0)) 12 ln (nI c)) 0 22 (nI (ln + 1)))) F (nn 0 (by decide)) (nn 2 (by decide)) (nn 7 (by decide)) (fun o ho => by unfold oEq at ho; omega) (fun j hj => F.r' hx nx) hP hLb rfl rfl rfl rfl rfl ⟨⟨(F.i' hx nx).trans hT.1.1, (F.i' hx nx).trans hT.1.2⟩, ot_sh hT F (F.r' hx nx) (nn 2 (by decide)) (nn 8 (by decide)) rfl rfl, ot_rw hT F (F.r' hx nx) (nn 10 (by decide)) (nn 16 (by decide)) rfl rfl, ⟨tb, ln + 1, chS ch ln c, (F.r' hx nx).trans r8, hB', by omega, rfl, fun j hj => ?_⟩, ⟨(F.i' hx nx).trans hT.2.2.2.2.1.1, hT.2.2.2.2.1.2⟩, ot_ex hT F (F.r' hx nx) (nn 12 (by decide)) rfl rfl⟩).st, F.sub (fun o ho => by unfold oEq at ho; unfold oC; omega) (by omega)⟩
    show (if 12 = 12 ∧ j = ln then nI c else S 12 j) = nI (chS ch ln c j) ∧ chS ch ln c j < 65536
    unfold chS
    by_cases ej : j = ln
    · rw [if_pos ⟨rfl, ej⟩, if_pos ej]
      exact ⟨rfl, hc⟩
    · rw [if_neg (fun h => ej h.2), if_neg ej]
      exact hch j (by omega)
theorem J_faultPosition {g : xG} {x : Nat} {S : xMS} (h : xST g x S) (hK : xKs g) : jOp Value.int M_X1_faultPosition M_X6_faultPosition [(25, 1)] [] g x S := by
  obtain ⟨p, lk, fa, ka, la, Z, n, rr, ww, dq, da, hh, ps, sv, hp⟩ := h.p
  have hM := hp.M
  have W := hM.P.wf
  have n10 := W.n10
  have r16 := W.r16
  have w12 := W.w12
  have h0 := W.s0
  have h1 := W.s1
  have h2 := W.s2
  have p8 := hp.Pa.2.2.2.1
  have hpm := hp.Pa.2.2.1
  have h14 := hp.1
  have hPa : xr g x 2 = some dq ∧ xAD g 7 dq da hh ps ∧ True ∧ ps.length ≤ 8 := ⟨hp.Pa.1, hp.Pa.2.1, trivial, p8⟩
  have O5 := hp.Ot.2.2.2.2.1
  have qr : ∀ (d : Nat) (g1 : xG) (m : Nat), xMod g1 m → XM M_X6_faultPosition (d + 90) [.ref m] (xWith g1 m S) (xOne (some (.int (opFault S).1)) (xWith g1 m (opFault S).2)) := fun d g1 m hm => SP_X6_faultPosition (d := d + 90) hm
  rcases O5.2 with e | ⟨f, hf, e⟩
  · have ee : opFault S = (nI 0, mset S 0 6 (nI 1)) := by unfold opFault; rw [e]; exact if_pos (by decide)
    simp only [ee] at qr
    exact .inr ⟨25, 1, nI 0, S, by decide, hp.thr (fun d => SP_X1_faultPosition_F (d := d + 10) hM.tx (O5.1.trans e)), jM.one qr rfl xAg2.m6⟩
  · have h0f : 0 ≤ S 0 25 := by
      rw [e, Int32.le_iff_toInt_le, nI_toInt (by omega), show (0 : Int32).toInt = 0 by decide]
      omega
    have ee : opFault S = (S 0 25, mset S 0 6 (nI 0)) := by unfold opFault; rw [if_neg (not_not_intro h0f)]
    simp only [ee] at qr
    exact .inl ⟨S 0 25, S, hp.one (fun d => by have z := SP_X1_faultPosition (d := d + 10) hM.tx (by rw [O5.1, e]; exact (m1_neI (by omega)).symm); rw [O5.1] at z; exact z), jM.one qr rfl xAg2.m6⟩
theorem J_reason {g : xG} {x : Nat} {S : xMS} (h : xST g x S) (hK : xKs g) {b : Bool} : jOp Value.int M_X1_reason M_X6_reason [(25, 1)] [.int (bI b)] g x S := by
  obtain ⟨p, lk, fa, ka, la, Z, n, rr, ww, dq, da, hh, ps, sv, hp⟩ := h.p
  have hM := hp.M
  have W := hM.P.wf
  have n10 := W.n10
  have r16 := W.r16
  have w12 := W.w12
  have h0 := W.s0
  have h1 := W.s1
  have h2 := W.s2
  have p8 := hp.Pa.2.2.2.1
  have hpm := hp.Pa.2.2.1
  have h14 := hp.1
  have hPa : xr g x 2 = some dq ∧ xAD g 7 dq da hh ps ∧ True ∧ ps.length ≤ 8 := ⟨hp.Pa.1, hp.Pa.2.1, trivial, p8⟩
  have O1 := hp.Ot.1
  have qr : ∀ (d : Nat) (g1 : xG) (m : Nat), xMod g1 m → XM M_X6_reason (d + 90) [.ref m, .int (bI b)] (xWith g1 m S) (xOne (some (.int (opReason S b).1)) (xWith g1 m (opReason S b).2)) := fun d g1 m hm => SP_X6_reason (d := d + 90) hm b
  by_cases e : S 0 7 = 0
  · have ee : opReason S b = (nI 0, mset S 0 6 (nI 1)) := by unfold opReason; rw [if_pos e]
    simp only [ee] at qr
    exact .inr ⟨25, 1, nI 0, S, by decide, hp.thr (fun d => SP_X1_reason_F (d := d + 10) hM.tx (O1.1.trans e)), jM.one qr rfl xAg2.m6⟩
  · have ee : opReason S b = ((if b then S 0 8 else S 0 7), mset S 0 6 (nI 0)) := by unfold opReason; rw [if_neg e]
    simp only [ee] at qr
    exact .inl ⟨_, S, hp.one (fun d => by have z := SP_X1_reason (d := d + 10) (b := b) hM.tx (by rw [O1.1]; exact e); rw [O1.1, O1.2] at z; exact z), jM.one qr rfl xAg2.m6⟩
theorem J_character {g : xG} {x : Nat} {S : xMS} (h : xST g x S) (hK : xKs g) {v : Int32} : jOp Value.int M_X1_character M_X6_character [(25, 1)] [.int v] g x S := by
  obtain ⟨p, lk, fa, ka, la, Z, n, rr, ww, dq, da, hh, ps, sv, hp⟩ := h.p
  have hM := hp.M
  have W := hM.P.wf
  have n10 := W.n10
  have r16 := W.r16
  have w12 := W.w12
  have h0 := W.s0
  have h1 := W.s1
  have h2 := W.s2
  have p8 := hp.Pa.2.2.2.1
  have hpm := hp.Pa.2.2.1
  have h14 := hp.1
  have hPa : xr g x 2 = some dq ∧ xAD g 7 dq da hh ps ∧ True ∧ ps.length ≤ 8 := ⟨hp.Pa.1, hp.Pa.2.1, trivial, p8⟩
  obtain ⟨eb, t, r10, hB, hl, h33, h13⟩ := hp.Ot.2.2.2.2.2
  have hd := hB.d
  by_cases c1 : inR v (nI 0) (nI t.length - nI 1) = true
  · obtain ⟨k, hk, rfl⟩ := inR_ex (by omega) c1
    exact .inl ⟨nI (t.getD k 0), S, hp.one (fun d => SP_X1_character (d := d + 10) hM.tx r10 hd (by omega) hk), jM.one (fun d g1 m hm => by have z := SP_X6_character (d := d + 89) hm t.length hl h33 (fun j hj => by rw [h13 j hj]; exact isCh_n (hd.chr hj)) k hk; rw [h13 k hk] at z; exact z) rfl xAg2.m6⟩
  · exact .inr ⟨25, 1, nI 32, S, by decide, hp.thr (fun d => SP_X1_character_F (d := d + 10) hM.tx r10 hd (by omega) c1), jM.one (fun d g1 m hm => SP_X6_character_F (d := d + 89) hm t.length h33 v c1) rfl xAg2.m6⟩
theorem J_explain {g : xG} {x : Nat} {S : xMS} (h : xST g x S) (hK : xKs g) {sc day feats : Int32} : jOp Value.int M_X1_explain M_X6_explain [(23, 1), (22, 2)] [.int sc, .int day, .int feats] g x S := by
  obtain ⟨p, lk, fa, ka, la, Z, n, rr, ww, dq, da, hh, ps, sv, hp⟩ := h.p
  have hM := hp.M
  have W := hM.P.wf
  have n10 := W.n10
  have r16 := W.r16
  have w12 := W.w12
  have h0 := W.s0
  have h1 := W.s1
  have h2 := W.s2
  have p8 := hp.Pa.2.2.2.1
  have hpm := hp.Pa.2.2.1
  have h14 := hp.1
  have hPa : xr g x 2 = some dq ∧ xAD g 7 dq da hh ps ∧ True ∧ ps.length ≤ 8 := ⟨hp.Pa.1, hp.Pa.2.1, trivial, p8⟩
  have p0 := hM.P.p0
  have pl := hM.P.lt
  have hx := hp.xl
  have hlk : lk < xsz g := xlt (by rw [hM.B.lt]; decide)
  have hT := hp.Ot
  by_cases c2 : inR sc (nI 0) (nI n - nI 1) = true
  · by_cases c3 : isCs day feats = true
    · obtain ⟨k, hk, rfl⟩ := inR_ex (by omega) c2
      obtain ⟨eb, t0, r10, hB, hl, h33, h13⟩ := hT.2.2.2.2.2
      obtain ⟨e, he, hoe⟩ := ocm_e (H := (hld (isPa (S 1)) rr (cov (S 1) (-1) k day feats))) W hk
      have l5 := chn_len5 (C := (cov (S 1) (-1) k day feats)) (H := (hld (isPa (S 1)) rr (cov (S 1) (-1) k day feats))) W
      have l200 := exT_len (e := e) l5 he
      refine .inl ⟨nI (exT (chn (S 1) (cov (S 1) (-1) k day feats) (hld (isPa (S 1)) rr (cov (S 1) (-1) k day feats)) rr) e).length, exS S (exT (chn (S 1) (cov (S 1) (-1) k day feats) (hld (isPa (S 1)) rr (cov (S 1) (-1) k day feats)) rr) e), fun d => (SP_X1_explain (d := d + 10) hM hk c3 r10 hB (by omega) hK.2.2.1 hK.2.2.2 he hoe).mono (fun rs g' ⟨e1, hB', hLb, F⟩ _ => ?_), fun d g1 m hm h3 hK1 => ?_⟩
      · have nn : ∀ o, o ≠ 6 → o ≠ 12 → ¬ o612 o := fun o h h2 h3 => by
          rcases h3 with h3 | h3
          · exact h h3
          · exact h2 h3
        have nx : ¬ o612 (xown g x) := by rw [hM.ox]; exact nn 1 (by decide) (by decide)
        have hP := hM.P.fr F (fun o h1 h2 => by unfold oP at h1; unfold o612 at h2; omega) (nn 2 (by decide) (by decide))
        refine ⟨e1, (hp.gen (S' := exS S (exT (chn (S 1) (cov (S 1) (-1) k day feats) (hld (isPa (S 1)) rr (cov (S 1) (-1) k day feats)) rr) e)) F (nn 0 (by decide) (by decide)) (nn 2 (by decide) (by decide)) (nn 7 (by decide) (by decide)) (fun o ho => by unfold o612 at ho; omega) (fun j hj => F.r' hx nx) hP hLb rfl rfl rfl rfl rfl ⟨⟨(F.i' hx nx).trans hT.1.1, (F.i' hx nx).trans hT.1.2⟩, ot_sh hT F (F.r' hx nx) (nn 2 (by decide) (by decide)) (nn 8 (by decide) (by decide)) rfl rfl, ot_rw hT F (F.r' hx nx) (nn 10 (by decide) (by decide)) (nn 16 (by decide) (by decide)) rfl rfl, ot_tx hT F (F.r' hx nx) (nn 11 (by decide) (by decide)) rfl rfl, ⟨(F.i' hx nx).trans hT.2.2.2.2.1.1, hT.2.2.2.2.1.2⟩, ⟨eb, (exT (chn (S 1) (cov (S 1) (-1) k day feats) (hld (isPa (S 1)) rr (cov (S 1) (-1) k day feats)) rr) e), (F.r' hx nx).trans r10, hB', l200, rfl, fun j hj => ?_⟩⟩).st, F.sub (fun o ho => by unfold o612 at ho; unfold oC; omega) (by omega)⟩
        unfold exS
        rw [if_neg (fun h => absurd h.1 (by decide)), if_pos ⟨rfl, hj⟩]
      · have z := SP_X6_explain (d := d + 83) hm n rr k n10 h0 r16 hk h1 W.o W.r day feats c3 (cov (S 1) (-1) k day feats) (hld (isPa (S 1)) rr (cov (S 1) (-1) k day feats)) (by rw [h14]) rfl W.e4 hK1.2.2.1 hK1.2.2.2 h3 he hoe l5
        exact z.mono (fun rs g' ⟨e1, g2, e2, m1, m2, F⟩ _ => ⟨e1, g2, _, e2, ⟨⟨rfl, rfl, rfl⟩, ⟨rfl, rfl, rfl, rfl, rfl⟩, ⟨rfl, rfl, rfl⟩, rfl, rfl, rfl, rfl, rfl, rfl⟩, rfl, m1, m2, F⟩)
    · have c3f : isCs day feats = false := by simpa using c3
      have ew := wr2 h0 c2 c3
      obtain ⟨k, hk, rfl⟩ := inR_ex (by omega) c2
      exact .inr ⟨22, 2, nI 0, S, by decide, hp.thr (fun d => SP_X1_explain_F2 (d := d + 10) hM hk c3f), jM.one (fun d g1 m hm => SP_X6_explain_W (d := d + 83) hm _ _ _ 2 (by decide) (by decide) ew) rfl (xAg2.m6)⟩
  · exact .inr ⟨23, 1, nI 0, S, by decide, hp.thr (fun d => SP_X1_explain_F1 (d := d + 10) hM c2), jM.one (fun d g1 m hm => SP_X6_explain_W (d := d + 83) hm _ _ _ 1 (by decide) (by decide) (wr1 h0 c2)) rfl (xAg2.m6)⟩
theorem J_account {g : xG} {x : Nat} {S : xMS} (h : xST g x S) (hK : xKs g) {v : Int32} : jOp Value.int M_X1_account M_X6_account [(22, 1)] [.int v] g x S := by
  obtain ⟨p, lk, fa, ka, la, Z, n, rr, ww, dq, da, hh, ps, sv, hp⟩ := h.p
  have hM := hp.M
  have W := hM.P.wf
  have n10 := W.n10
  have r16 := W.r16
  have w12 := W.w12
  have h0 := W.s0
  have h1 := W.s1
  have h2 := W.s2
  have p8 := hp.Pa.2.2.2.1
  have hpm := hp.Pa.2.2.1
  have h14 := hp.1
  have hPa : xr g x 2 = some dq ∧ xAD g 7 dq da hh ps ∧ True ∧ ps.length ≤ 8 := ⟨hp.Pa.1, hp.Pa.2.1, trivial, p8⟩
  have p0 := hM.P.p0
  have pl := hM.P.lt
  have hx := hp.xl
  have hlk : lk < xsz g := xlt (by rw [hM.B.lt]; decide)
  have hT := hp.Ot
  obtain ⟨sh, sg, a1, a3, q9⟩ := hT.2.1.q
  obtain ⟨rw0, r7, rQ⟩ := hT.2.2.1
  obtain ⟨tb, ln, ch, r8, hB, hln, h22, hch⟩ := hT.2.2.2.1
  have hc6 : cntB (wRt (S 1) (-1) rr) ww = ww - cntB (fun z => !wRt (S 1) (-1) rr z) ww := by
    have := cntB_not (wRt (S 1) (-1) rr) ww
    omega
  have ar : ∀ (w : Nat), w ≤ 10 → ∀ (d : Nat) (g1 : xG) (m : Nat), xMod g1 m → XM M_X6_account (d + 90) [.ref m, .int (nI w)] (xWith g1 m S) (xLk g1 m (mset S 0 6 (nI 0)) (acc S rr ww w)) := fun w hw d g1 m hm => SP_X6_account (d := d + 82) hm n rr ww n10 r16 w12 h1 h2 W.o W.r W.w W.e4 W.p w hw
  by_cases c2 : inR v (nI 0) (nI 10) = true
  · obtain ⟨w, hw, rfl⟩ := inR_nat (by decide) c2
    have hw5 : w = 0 ∨ w = 1 ∨ w = 2 ∨ w = 3 ∨ w = 4 ∨ w = 5 ∨ w = 6 ∨ w = 7 ∨ w = 8 ∨ w = 9 ∨ w = 10 := by omega
    rcases hw5 with rfl | rfl | rfl | rfl | rfl | rfl | rfl | rfl | rfl | rfl | rfl
    · exact .inl ⟨_, S, hp.one (fun d => SP_X1_account0 (d := d + 10) hM), jM.lk (fun d g1 m hm => by have z := ar 0 (by decide) d g1 m hm; exact z) rfl xAg2.m6⟩
    · exact .inl ⟨_, S, hp.one (fun d => SP_X1_account1 (d := d + 10) hM), jM.lk (fun d g1 m hm => by have z := ar 1 (by decide) d g1 m hm; exact z) rfl xAg2.m6⟩
    · exact .inl ⟨_, S, hp.lb (N := 2) (by decide) (fun d => SP_X1_account2 (d := d + 10) hM), jM.lk (fun d g1 m hm => by have z := ar 2 (by decide) d g1 m hm; exact z) rfl xAg2.m6⟩
    · exact .inl ⟨_, S, hp.one (fun d => SP_X1_account3 (d := d + 10) hM), jM.lk (fun d g1 m hm => by have z := ar 3 (by decide) d g1 m hm; exact z) rfl xAg2.m6⟩
    · exact .inl ⟨_, S, hp.one (fun d => SP_X1_account4 (d := d + 10) hM), jM.lk (fun d g1 m hm => by have z := ar 4 (by decide) d g1 m hm; exact z) rfl xAg2.m6⟩
    · exact .inl ⟨_, S, hp.one (fun d => SP_X1_account5 (d := d + 10) hM), jM.lk (fun d g1 m hm => by have z := ar 5 (by decide) d g1 m hm; exact z) rfl xAg2.m6⟩
    · exact .inl ⟨_, S, hp.lb (N := 2) (by decide) (fun d => SP_X1_account6 (d := d + 10) hM), jM.lk (fun d g1 m hm => by have z := ar 6 (by decide) d g1 m hm; have e6 : acc S rr ww 6 = nI (cntB (wRt (S 1) (-1) rr) ww) := (by rw [hc6, ← h14]; rfl); rw [e6] at z; exact z) rfl xAg2.m6⟩
    · exact .inl ⟨_, S, hp.one (fun d => SP_X1_account7 (d := d + 10) hM.tx a1 q9), jM.lk (fun d g1 m hm => by have z := ar 7 (by decide) d g1 m hm; exact z) rfl xAg2.m6⟩
    · exact .inl ⟨_, S, hp.one (fun d => SP_X1_account8 (d := d + 10) rQ hM.tx r7), jM.lk (fun d g1 m hm => by have z := ar 8 (by decide) d g1 m hm; exact z) rfl xAg2.m6⟩
    · exact .inl ⟨_, S, hp.one (fun d => SP_X1_account9 (d := d + 10) hM.tx r8 hB hln), jM.lk (fun d g1 m hm => by have z := ar 9 (by decide) d g1 m hm; have e9 : acc S rr ww 9 = nI ln := h22; rw [e9] at z; exact z) rfl xAg2.m6⟩
    · exact .inl ⟨_, S, hp.one (fun d => SP_X1_account10 (d := d + 10) hM.tx hp.Pa.1 hp.Pa.2.1), jM.lk (fun d g1 m hm => by have z := ar 10 (by decide) d g1 m hm; have e9 : acc S rr ww 10 = nI ps.length := hpm; rw [e9] at z; exact z) rfl xAg2.m6⟩
  · exact .inr ⟨22, 1, nI 0, S, by decide, hp.thr (fun d => SP_X1_account_F (d := d + 10) c2), jM.one (fun d g1 m hm => SP_X6_account_F (d := d + 82) hm v c2) rfl (xAg2.m6)⟩
theorem J_wrong {g : xG} {x : Nat} {S : xMS} (h : xST g x S) (hK : xKs g) : jOp Value.int M_X1_wrong M_X6_wrong [] [] g x S := by
  obtain ⟨p, lk, fa, ka, la, Z, n, rr, ww, dq, da, hh, ps, sv, hp⟩ := h.p
  have hM := hp.M
  have W := hM.P.wf
  have n10 := W.n10
  have r16 := W.r16
  have w12 := W.w12
  have h0 := W.s0
  have h1 := W.s1
  have h2 := W.s2
  have p8 := hp.Pa.2.2.2.1
  have hpm := hp.Pa.2.2.1
  have h14 := hp.1
  have hPa : xr g x 2 = some dq ∧ xAD g 7 dq da hh ps ∧ True ∧ ps.length ≤ 8 := ⟨hp.Pa.1, hp.Pa.2.1, trivial, p8⟩
  exact .inl ⟨_, S, hp.lb (N := 0) (by decide) (fun d => SP_X1_wrong (d := d + 16) hM), jM.lk (fun d g1 m hm => by have z := SP_X6_wrong (d := d + 82) hm n rr ww n10 r16 w12 h1 h2 W.o W.r W.w W.e4; rw [h14] at z; exact z) rfl xAg2.m6⟩
theorem J_tested {g : xG} {x : Nat} {S : xMS} (h : xST g x S) (hK : xKs g) : jOp Value.int M_X1_tested M_X6_tested [] [] g x S := by
  obtain ⟨p, lk, fa, ka, la, Z, n, rr, ww, dq, da, hh, ps, sv, hp⟩ := h.p
  have hM := hp.M
  have W := hM.P.wf
  have n10 := W.n10
  have r16 := W.r16
  have w12 := W.w12
  have h0 := W.s0
  have h1 := W.s1
  have h2 := W.s2
  have p8 := hp.Pa.2.2.2.1
  have hpm := hp.Pa.2.2.1
  have h14 := hp.1
  have hPa : xr g x 2 = some dq ∧ xAD g 7 dq da hh ps ∧ True ∧ ps.length ≤ 8 := ⟨hp.Pa.1, hp.Pa.2.1, trivial, p8⟩
  exact .inl ⟨_, S, hp.lb (N := 2) (by decide) (fun d => SP_X1_tested (d := d + 13) hM), jM.lkC (fun d g1 m hm => by have z := SP_X6_tested (d := d + 83) hm n rr ww n10 r16 w12 h1 h2 W.o W.r W.w W.e4; rw [h14] at z; exact z) rfl xAg2.m6⟩
theorem J_save {g : xG} {x : Nat} {S : xMS} (h : xST g x S) (hK : xKs g) : jOp Value.int M_X1_save M_X6_save [] [] g x S := by
  obtain ⟨p, lk, fa, ka, la, Z, n, rr, ww, dq, da, hh, ps, sv, hp⟩ := h.p
  have hM := hp.M
  have W := hM.P.wf
  have n10 := W.n10
  have r16 := W.r16
  have w12 := W.w12
  have h0 := W.s0
  have h1 := W.s1
  have h2 := W.s2
  have p8 := hp.Pa.2.2.2.1
  have hpm := hp.Pa.2.2.1
  have h14 := hp.1
  have hPa : xr g x 2 = some dq ∧ xAD g 7 dq da hh ps ∧ True ∧ ps.length ≤ 8 := ⟨hp.Pa.1, hp.Pa.2.1, trivial, p8⟩
  have p0 := hM.P.p0
  have pl := hM.P.lt
  have hx := hp.xl
  have hlk : lk < xsz g := xlt (by rw [hM.B.lt]; decide)
  have hT := hp.Ot
  have hem : (xE g).2.2.1 4 < xsz g := xlt (by rw [hM.em.1]; decide)
  have hN := hp.Nd
  obtain ⟨u1, u2, u3, u4, u5⟩ := hp.Pa
  obtain ⟨v1, v2, v3⟩ := hp.Sv
  refine .inl ⟨nI rr, (mset (mcpy (mset S 0 6 (nI 0)) 1 3 0 0 391) 0 3 (nI 1)), fun d => (SP_X1_save (d := d + 10) hM).mono (fun rs g' ⟨e1, e2, ⟨Z', hQ⟩, hP, F, e4, e5⟩ _ => ?_), jM.one (fun d g1 m hm => by have z := SP_X6_save (d := d + 89) (S := S) hm; rw [h1] at z; exact z) rfl xAg2.rf⟩
  have nn : ∀ o, o ≠ 1 → o < 1000 → ¬ (fun o => o = 1 ∨ oP (xsz g) o) o := fun o h h2 h3 => by
    simp only [oP] at h3
    omega
  have old : ∀ q s, xPo g q s → xPo g' q s := fun q s hpo => hpo.fr F (fun o h1 h2 => by
    have := hpo.lt
    have := hpo.p0
    unfold oP at h1
    simp only [oP] at h2
    omega) (nn 2 (by decide) (by decide))
  have hB := hM.B.fr F (fun j _ => F.r' hlk (by rw [hM.B.lko]; exact (nn 6 (by decide) (by decide))))
  refine ⟨e1, ⟨h14, p, lk, fa, ka, la, Z, n, rr, ww, dq, da, hh, ps, some (xsz g), ⟨⟨(F.tag hx).trans hM.tx, (F.own hx).trans hM.ox, (e4 0 (by decide)).trans hM.xp⟩, hP, (e4 3 (by decide)).trans hM.l3, hB, hM.cn.fr F (nn 0 (by decide) (by decide)), ⟨by rw [F.e, F.tag hem]; exact hM.em.1, by rw [F.e, F.len hem]; exact hM.em.2.1, by rw [F.e, F.own hem]; exact hM.em.2.2⟩⟩, ⟨(e4 2 (by decide)).trans u1, u2.fr F (nn 7 (by decide) (by decide)), u3, u4, fun k hk => old _ _ (u5 k hk)⟩, ⟨e2, rfl, fun q hq => ?_⟩, ?_, ⟨⟨(e5 4).trans hT.1.1, (e5 5).trans hT.1.2⟩, ot_sh hT F (e4 6 (by decide)) (nn 2 (by decide) (by decide)) (nn 8 (by decide) (by decide)) rfl rfl, ot_rw hT F (e4 7 (by decide)) (nn 10 (by decide) (by decide)) (nn 16 (by decide) (by decide)) rfl rfl, ot_tx hT F (e4 8 (by decide)) (nn 11 (by decide) (by decide)) rfl rfl, ⟨(e5 9).trans hT.2.2.2.2.1.1, hT.2.2.2.2.1.2⟩, ot_ex hT F (e4 10 (by decide)) (nn 12 (by decide) (by decide)) rfl rfl⟩⟩, F.sub (fun o ho => by simp only [oP] at ho; unfold oC; omega) (by omega)⟩
  · cases hq
    refine ⟨Z', n, rr, ww, hQ.cong (fun j hj => ?_)⟩
    show mcpy (mset S 0 6 (nI 0)) 1 3 0 0 391 3 j = S 1 j
    rw [mcpy_s, va_cpy_1 ⟨Nat.zero_le _, by omega⟩, Nat.zero_add, Nat.sub_zero]
    rfl
  · rw [List.nodup_cons, List.nodup_append] at hN
    obtain ⟨m1, m2, m3, m4⟩ := hN
    have hps : ∀ a, a ∈ ps → a < xsz g := fun a ha => by
      obtain ⟨k, hk, e⟩ := List.getElem_of_mem ha
      have := (u5 k hk).lt
      rw [List.getD_eq_getElem?_getD, List.getElem?_eq_getElem hk, Option.getD_some, e] at this
      exact this
    show (p :: ([xsz g] ++ ps)).Nodup
    rw [List.nodup_cons, List.nodup_append]
    refine ⟨fun hm => ?_, by simp, m3, fun a ha b hb e => ?_⟩
    · rcases List.mem_append.mp hm with h | h
      · have : p = xsz g := by simpa using h
        omega
      · exact m1 (List.mem_append.mpr (Or.inr h))
    · have ea : a = xsz g := by simpa using ha
      have := hps b hb
      omega
theorem J_restore {g : xG} {x : Nat} {S : xMS} (h : xST g x S) (hK : xKs g) : jOp Value.int M_X1_restore M_X6_restore [(24, 1)] [] g x S := by
  obtain ⟨p, lk, fa, ka, la, Z, n, rr, ww, dq, da, hh, ps, sv, hp⟩ := h.p
  have hM := hp.M
  have W := hM.P.wf
  have n10 := W.n10
  have r16 := W.r16
  have w12 := W.w12
  have h0 := W.s0
  have h1 := W.s1
  have h2 := W.s2
  have p8 := hp.Pa.2.2.2.1
  have hpm := hp.Pa.2.2.1
  have h14 := hp.1
  have hPa : xr g x 2 = some dq ∧ xAD g 7 dq da hh ps ∧ True ∧ ps.length ≤ 8 := ⟨hp.Pa.1, hp.Pa.2.1, trivial, p8⟩
  have p0 := hM.P.p0
  have pl := hM.P.lt
  have hx := hp.xl
  have hlk : lk < xsz g := xlt (by rw [hM.B.lt]; decide)
  have hT := hp.Ot
  have hem : (xE g).2.2.1 4 < xsz g := xlt (by rw [hM.em.1]; decide)
  have hN := hp.Nd
  obtain ⟨u1, u2, u3, u4, u5⟩ := hp.Pa
  obtain ⟨v1, v2, v3⟩ := hp.Sv
  have qr : ∀ (d : Nat) (g1 : xG) (m : Nat), xMod g1 m → XM M_X6_restore (d + 90) [.ref m] (xWith g1 m S) (xOne (some (.int (opRestore S sv.isSome).1)) (xWith g1 m (opRestore S sv.isSome).2)) := fun d g1 m hm => SP_X6_restore (d := d + 89) hm sv.isSome v2
  cases sv with
  | none =>
    have ee : opRestore S (none : Option Nat).isSome = (nI 0, mset S 0 6 (nI 1)) := rfl
    simp only [ee] at qr
    exact .inr ⟨24, 1, nI 0, S, by decide, hp.thr (fun d => SP_X1_restore_F (d := d + 10) hM.tx v1), jM.one qr rfl xAg2.m6⟩
  | some q =>
    have ee : opRestore S (some q).isSome = (S 3 1, (mset (mcpy (mset S 0 6 (nI 0)) 3 1 0 0 391) 0 5 (nI 0))) := rfl
    simp only [ee] at qr
    obtain ⟨Zq, nq, rq, wq, hQ⟩ := v3 q rfl
    rw [hQ.wf.s1] at qr
    refine .inl ⟨nI rq, (mset (mcpy (mset S 0 6 (nI 0)) 3 1 0 0 391) 0 5 (nI 0)), fun d => (SP_X1_restore (d := d + 10) hM.tx hM.ox v1 u1 hQ u2).mono (fun rs g' ⟨e1, e2, ⟨Z', hP⟩, hD, F, e4, e5⟩ _ => ?_), jM.one qr rfl xAg2.rf⟩
    have nn : ∀ o, o ≠ 1 → o ≠ 7 → o < 1000 → ¬ (fun o => o = 1 ∨ o = 7 ∨ oP (xsz g) o) o := fun o h h7 h2 h3 => by
      simp only [oP] at h3
      omega
    have old : ∀ q s, xPo g q s → xPo g' q s := fun q s hpo => hpo.fr F (fun o h1 h2 => by
      have := hpo.lt
      have := hpo.p0
      unfold oP at h1
      simp only [oP] at h2
      omega) (nn 2 (by decide) (by decide) (by decide))
    have hB := hM.B.fr F (fun j _ => F.r' hlk (by rw [hM.B.lko]; exact (nn 6 (by decide) (by decide) (by decide))))
    have hql := hQ.lt
    refine ⟨e1, ⟨h14, xsz g, lk, fa, ka, la, Z', nq, rq, wq, dq, da, 0, [], some q, ⟨⟨(F.tag hx).trans hM.tx, (F.own hx).trans hM.ox, e2⟩, hP.cong (fun j hj => ?_), (e4 3 (by decide)).trans hM.l3, hB, hM.cn.fr F (nn 0 (by decide) (by decide) (by decide)), ⟨by rw [F.e, F.tag hem]; exact hM.em.1, by rw [F.e, F.len hem]; exact hM.em.2.1, by rw [F.e, F.own hem]; exact hM.em.2.2⟩⟩, ⟨(e4 2 (by decide)).trans u1, hD, rfl, Nat.zero_le _, fun k hk => absurd hk (Nat.not_lt_zero k)⟩, ⟨(e4 1 (by decide)).trans v1, v2, fun q2 hq2 => old q2 _ (v3 q2 hq2)⟩, ?_, ⟨⟨(e5 4).trans hT.1.1, (e5 5).trans hT.1.2⟩, ot_sh hT F (e4 6 (by decide)) (nn 2 (by decide) (by decide) (by decide)) (nn 8 (by decide) (by decide) (by decide)) rfl rfl, ot_rw hT F (e4 7 (by decide)) (nn 10 (by decide) (by decide) (by decide)) (nn 16 (by decide) (by decide) (by decide)) rfl rfl, ot_tx hT F (e4 8 (by decide)) (nn 11 (by decide) (by decide) (by decide)) rfl rfl, ⟨(e5 9).trans hT.2.2.2.2.1.1, hT.2.2.2.2.1.2⟩, ot_ex hT F (e4 10 (by decide)) (nn 12 (by decide) (by decide) (by decide)) rfl rfl⟩⟩, F.sub (fun o ho => by simp only [oP] at ho; unfold oC; omega) (by omega)⟩
    · show mcpy (mset S 0 6 (nI 0)) 3 1 0 0 391 1 j = S 3 j
      rw [mcpy_s, va_cpy_1 ⟨Nat.zero_le _, by omega⟩, Nat.zero_add, Nat.sub_zero]
      rfl
    · show (xsz g :: [q]).Nodup
      have hne : ¬ xsz g = q := by omega
      simp [hne]
theorem J_undo {g : xG} {x : Nat} {S : xMS} (h : xST g x S) (hK : xKs g) : jOp Value.int M_X1_undo M_X6_undo [(24, 1)] [] g x S := by
  obtain ⟨p, lk, fa, ka, la, Z, n, rr, ww, dq, da, hh, ps, sv, hp⟩ := h.p
  have hM := hp.M
  have W := hM.P.wf
  have n10 := W.n10
  have r16 := W.r16
  have w12 := W.w12
  have h0 := W.s0
  have h1 := W.s1
  have h2 := W.s2
  have p8 := hp.Pa.2.2.2.1
  have hpm := hp.Pa.2.2.1
  have h14 := hp.1
  have hPa : xr g x 2 = some dq ∧ xAD g 7 dq da hh ps ∧ True ∧ ps.length ≤ 8 := ⟨hp.Pa.1, hp.Pa.2.1, trivial, p8⟩
  have p0 := hM.P.p0
  have pl := hM.P.lt
  have hx := hp.xl
  have hlk : lk < xsz g := xlt (by rw [hM.B.lt]; decide)
  have hT := hp.Ot
  have hem : (xE g).2.2.1 4 < xsz g := xlt (by rw [hM.em.1]; decide)
  have hN := hp.Nd
  obtain ⟨u1, u2, u3, u4, u5⟩ := hp.Pa
  obtain ⟨v1, v2, v3⟩ := hp.Sv
  have qr : ∀ (d : Nat) (g1 : xG) (m : Nat), xMod g1 m → XM M_X6_undo (d + 90) [.ref m] (xWith g1 m S) (xOne (some (.int (opUndo S ps.length).1)) (xWith g1 m (opUndo S ps.length).2)) := fun d g1 m hm => SP_X6_undo (d := d + 89) hm ps.length p8 hpm
  rcases List.eq_nil_or_concat ps with e0 | ⟨qs, q, e0⟩
  · have ee : opUndo S ps.length = (nI 0, mset S 0 6 (nI 1)) := by rw [e0]; rfl
    simp only [ee] at qr
    exact .inr ⟨24, 1, nI 0, S, by decide, hp.thr (fun d => SP_X1_undo_F (d := d + 10) hM.tx hM.ox u1 u2 e0), jM.one qr rfl xAg2.m6⟩
  · rw [List.concat_eq_append] at e0
    have el : ps.length = qs.length + 1 := by rw [e0]; simp
    have ee : opUndo S ps.length = (nI qs.length, (mcpy (mset (mset S 0 6 (nI 0)) 0 5 (nI qs.length)) 4 1 (391 * qs.length) 0 391)) := by
      unfold opUndo
      rw [el, if_neg (Nat.succ_ne_zero _)]
      rfl
    simp only [ee] at qr
    have eq1 : ps.getD qs.length 0 = q := by rw [e0]; simp
    have hq := u5 qs.length (by omega)
    rw [eq1] at hq
    obtain ⟨Zq, nq, rq, wq, hQ⟩ := hq
    have u2' := u2
    rw [e0] at u2'
    refine .inl ⟨nI qs.length, (mcpy (mset (mset S 0 6 (nI 0)) 0 5 (nI qs.length)) 4 1 (391 * qs.length) 0 391), fun d => (SP_X1_undo (d := d + 10) (ps := qs) hM.tx hM.ox u1 u2' hQ.tag (by omega)).mono (fun rs g' ⟨e1, e2, hD, F, e4, e5⟩ _ => ?_), jM.one qr rfl xAg2.rf⟩
    have nn : ∀ o, o ≠ 1 → o ≠ 7 → ¬ (fun o => o = 1 ∨ o = 7) o := fun o h h7 h3 => by
      rcases h3 with h3 | h3 <;> omega
    have nP : ∀ q, 0 < q → ∀ o, oP q o → ¬ (fun o => o = 1 ∨ o = 7) o := fun q q0 o h1 => nn o (by unfold oP at h1; omega) (by unfold oP at h1; omega)
    have old : ∀ q s, xPo g q s → xPo g' q s := fun q s hpo => hpo.fr F (nP q hpo.p0) (nn 2 (by decide) (by decide))
    have hB := hM.B.fr F (fun j _ => F.r' hlk (by rw [hM.B.lko]; exact (nn 6 (by decide) (by decide))))
    refine ⟨e1, ⟨h14, q, lk, fa, ka, la, Zq, nq, rq, wq, dq, da, hh, qs, sv, ⟨⟨(F.tag hx).trans hM.tx, (F.own hx).trans hM.ox, e2⟩, (hQ.fr F (nP q hQ.p0) (nn 2 (by decide) (by decide))).cong (fun j hj => ?_), (e4 3 (by decide)).trans hM.l3, hB, hM.cn.fr F (nn 0 (by decide) (by decide)), ⟨by rw [F.e, F.tag hem]; exact hM.em.1, by rw [F.e, F.len hem]; exact hM.em.2.1, by rw [F.e, F.own hem]; exact hM.em.2.2⟩⟩, ⟨(e4 2 (by decide)).trans u1, hD, rfl, by omega, fun k hk => ?_⟩, ⟨(e4 1 (by decide)).trans v1, v2, fun q2 hq2 => old q2 _ (v3 q2 hq2)⟩, ?_, ⟨⟨(e5 4).trans hT.1.1, (e5 5).trans hT.1.2⟩, ot_sh hT F (e4 6 (by decide)) (nn 2 (by decide) (by decide)) (nn 8 (by decide) (by decide)) rfl rfl, ot_rw hT F (e4 7 (by decide)) (nn 10 (by decide) (by decide)) (nn 16 (by decide) (by decide)) rfl rfl, ot_tx hT F (e4 8 (by decide)) (nn 11 (by decide) (by decide)) rfl rfl, ⟨(e5 9).trans hT.2.2.2.2.1.1, hT.2.2.2.2.1.2⟩, ot_ex hT F (e4 10 (by decide)) (nn 12 (by decide) (by decide)) rfl rfl⟩⟩, F.sub (fun o ho => by unfold oC; omega) (by omega)⟩
    · show mcpy (mset (mset S 0 6 (nI 0)) 0 5 (nI qs.length)) 4 1 (391 * qs.length) 0 391 1 j = S 4 (391 * qs.length + j)
      rw [mcpy_s, va_cpy_1 ⟨Nat.zero_le _, by omega⟩, Nat.sub_zero]
      rfl
    · have z := u5 k (by omega)
      have eg : ps.getD k 0 = qs.getD k 0 := by rw [e0, List.getD_eq_getElem?_getD, List.getD_eq_getElem?_getD, List.getElem?_append_left hk]
      rw [eg] at z
      exact old _ _ z
    · rw [e0, List.nodup_cons, List.nodup_append, List.nodup_append] at hN
      obtain ⟨m1, m2, ⟨m3, m4, m5⟩, m6⟩ := hN
      rw [List.nodup_cons, List.nodup_append]
      refine ⟨fun hm => ?_, m2, m3, fun a ha b hb => m6 a ha b (List.mem_append.mpr (Or.inl hb))⟩
      rcases List.mem_append.mp hm with h | h
      · exact m6 q h q (List.mem_append.mpr (Or.inr (by simp))) rfl
      · exact m5 q h q (by simp) rfl
