/-! LAW 8: ops on sheet, rows, texts -/
set_option maxRecDepth 100000
theorem xShQ.new {g : xG} {sh Q sg : Nat} {s9 : Nat → Int32} (h : xShQ g sh Q sg (fun _ => -1)) (hs : ∀ k, k < 6 → s9 (3 * k) = -1) : xShQ g sh Q sg s9 := by
  obtain ⟨a, b, c, d, e, f⟩ := h
  refine ⟨a, b, c, d, e, fun k hk => Or.inl ⟨hs k hk, ?_⟩⟩
  rcases f k hk with q | ⟨b, q1, q2, q3⟩
  · exact q.2
  · exact absurd q2.2.2.2.1.1 (m1_neI (by have := q2.2.2.2.1.2; omega))
theorem xSh.q {g : xG} {x : Nat} {S : xMS} (h : xSh g x S) : ∃ sh sg, xr g x 6 = some sh ∧ S 0 17 = nI sg ∧ xShQ g sh (if sg = 4 then 8 else 9 + sg) sg (S 9) := by
  obtain ⟨sh, sg, a1, a2, a3, a4, a5, a6, a7⟩ := h
  exact ⟨sh, sg, a1, a3, a2, a4, by rw [a5]; split <;> omega, rfl, a6, a7⟩
theorem xShQ.wf {g : xG} {sh Q sg : Nat} {S : xMS} (h : xShQ g sh Q sg (S 9)) : WFsh S := fun k hk ho => by
  rcases h.2.2.2.2.2 k hk with q | ⟨b, q1, q2, q3⟩
  · exfalso
    unfold osP at ho
    rw [q.1] at ho
    exact absurd ho (by decide)
  · exact q2.2.2.2.2.1
/-- a row kept, for the rows -/
theorem xRwQ.put {g g' : xG} {rw0 t many N : Nat} {s10 s11 s10' s11' : Nat → Int32} {v : Nat → Int32} {O : Nat → Prop} (h : xRwQ g rw0 s10 s11) (hC : xRwC O g rw0 t many v N g') (b10 : ¬ O 10) (ht : t < 3) (hm : many ≤ 12) (hv : ∀ j, j < many → s10' (12 * t + j) = v j ∧ fOK (v j)) (h11 : s11' t = nI many)
    (e11 : ∀ r, r ≠ t → s11' r = s11 r) (e10 : ∀ r, r < 3 → r ≠ t → ∀ j, j < 12 → s10' (12 * r + j) = s10 (12 * r + j)) : xRwQ g' rw0 s10' s11' := by
  obtain ⟨a1, a2, a3, a4⟩ := h
  obtain ⟨A, c1, c2, c3, c4, c5, c6, c7, F⟩ := hC
  have hs : rw0 < xsz g := xlt (by rw [a1]; decide)
  refine ⟨(F.tag hs).trans a1, (F.own hs).trans a2, (F.len hs).trans a3, fun r hr => ?_⟩
  by_cases e : r = t
  · subst e
    exact Or.inr ⟨A, many, c2, h11, hm, c3, c4, c5, fun j hj => ⟨(c6 j hj).trans (hv j hj).1.symm, by rw [(hv j hj).1]; exact (hv j hj).2⟩⟩
  · rw [c7 r e, e11 r e]
    rcases a4 r hr with q | ⟨a, m, q1, q2, q3, q4, q5, q6, q7⟩
    · exact Or.inl q
    · have ha : a < xsz g := xlt (by rw [q4]; decide)
      have hoa : ¬ ((fun o => o = 16 ∨ O o) (xown g a)) := by
        rw [q5]
        intro h
        rcases h with h | h
        · exact absurd h (by decide)
        · exact b10 h
      exact Or.inr ⟨a, m, q1, q2, q3, (F.tag ha).trans q4, (F.own ha).trans q5, (F.len ha).trans q6, fun j hj => by rw [F.i' ha hoa, e10 r hr e j (by omega)]; exact q7 j hj⟩
theorem fOK_u {u : UInt32} (h : fOKu u) : fOK u.toInt32 := by
  unfold fOK
  have e : u.toInt32.toUInt32 = u := by simp
  rw [e]
  exact h
theorem fOKu_f {v : Int32} (h : fOK v) : fOKu v.toUInt32 := h
theorem abF_cg {a b : Nat → UInt32} : ∀ k, (∀ j, j < k → a j = b j) → abF a k = abF b k
  | 0, _ => rfl
  | k + 1, h => by
    unfold abF
    rw [abF_cg k (fun j hj => h j (by omega)), h k (by omega)]
theorem toF_cg {a b : Nat → UInt32} : ∀ (j k : Nat) (s : UInt64), (∀ i, i < j + k → a i = b i) → toF a j k s = toF b j k s
  | 0, _, _, _ => rfl
  | j + 1, k, s, h => by
    unfold toF
    rw [h k (by omega), toF_cg j (k + 1) _ (fun i hi => h i (by omega))]
theorem chn_len5 {s : Nat → Int32} {C H : Nat → Bool} {n rr ww : Nat} (hW : WFS s n rr ww) : (chn s C H rr).length ≤ 5 := by
  unfold chn
  cases hq : prvK s H rr with
  | none => exact Nat.zero_le _
  | some r =>
    have := chF_len5 (C := C) (H := H) hW rr r (prvK_lt hq)
    show (chF s C H rr rr r).length ≤ 5
    omega
theorem exT_len {L : List Nat} {e : Nat} (hL : L.length ≤ 5) (he : e < 3) : (exT L e).length ≤ 200 := by
  have h0 := exP_len L L.length
  have l2 : (xTxt 2).length ≤ 30 := by decide +kernel
  have l3 : (xTxt 3).length ≤ 30 := by decide +kernel
  have l4 : (xTxt 4).length ≤ 30 := by decide +kernel
  have l5 : (xTxt 5).length ≤ 30 := by decide +kernel
  have l6 : (xTxt 6).length ≤ 30 := by decide +kernel
  have l7 : (xTxt 7).length ≤ 30 := by decide +kernel
  have l8 : (xTxt (5 + e)).length ≤ 30 := by
    have h3 : e = 0 ∨ e = 1 ∨ e = 2 := by omega
    rcases h3 with rfl | rfl | rfl
    · exact l5
    · exact l6
    · exact l7
  unfold exT
  rw [List.length_append, List.length_append, List.length_append]
  split <;> omega

theorem J_sheet {g : xG} {x : Nat} {S : xMS} (h : xST g x S) (hK : xKs g) {v : Int32} : jOp Value.int M_X1_sheet M_X6_sheet [(22, 1)] [.int v] g x S := by
  obtain ⟨p, lk, fa, ka, la, Z, n, rr, ww, dq, da, hh, ps, sv, hp⟩ := h.p
  have hM := hp.M
  have W := hM.P.wf
  have n10 := W.n10
  have r16 := W.r16
  have w12 := W.w12
  have h0 := W.s0
  have h1 := W.s1
  have h2 := W.s2
  have p8 := hp.Pa.2.2.2.1
  have hpm := hp.Pa.2.2.1
  have h14 := hp.1
  have hPa : xr g x 2 = some dq ∧ xAD g 7 dq da hh ps ∧ True ∧ ps.length ≤ 8 := ⟨hp.Pa.1, hp.Pa.2.1, trivial, p8⟩
  have p0 := hM.P.p0
  have pl := hM.P.lt
  have hx := hp.xl
  have hlk : lk < xsz g := xlt (by rw [hM.B.lt]; decide)
  have hT := hp.Ot
  obtain ⟨sh, sg, a1, a3, q⟩ := hT.2.1.q
  by_cases c1 : inR v (nI 0) (nI 4) = true
  · have c1' := c1
    obtain ⟨w, hw, rfl⟩ := inR_nat (by decide) c1'
    refine .inl ⟨_, shC (mset (mset S 0 6 (nI 0)) 0 17 (nI w)) 6, fun d => (SP_X1_sheet (d := d + 10) hM.tx a1 q hM.ox hw).mono (fun rs g' ⟨e1, e2, e3, F, e4, e5⟩ _ => ?_), jM.one (fun d g1 m hm => SP_X6_sheet (d := d + 89) hm (nI w) c1) rfl xAg2.rf⟩
    have nn : ∀ o, o ≠ 1 → ¬ oEq 1 o := fun o h h2 => h h2
    have hP := hM.P.fr F (fun o h1 h2 => by unfold oP at h1; unfold oEq at h2; omega) (nn 2 (by decide))
    have hB := hM.B.fr F (fun j _ => F.r' hlk (by rw [hM.B.lko]; exact nn 6 (by decide)))
    refine ⟨e1, (hp.gen (S' := shC (mset (mset S 0 6 (nI 0)) 0 17 (nI w)) 6) F (nn 0 (by decide)) (nn 2 (by decide)) (nn 7 (by decide)) (fun o ho => by unfold oEq at ho; omega) (fun j hj => e4 j (by omega)) hP hB rfl rfl rfl rfl rfl ⟨⟨(e5 4).trans hT.1.1, (e5 5).trans hT.1.2⟩, (e3.new (s9 := shC (mset (mset S 0 6 (nI 0)) 0 17 (nI w)) 6 9) (fun k hk => ?_)).sh e2 rfl, ot_rw hT F (e4 7 (by decide)) (nn 10 (by decide)) (nn 16 (by decide)) rfl rfl, ot_tx hT F (e4 8 (by decide)) (nn 11 (by decide)) rfl rfl, ⟨(e5 9).trans hT.2.2.2.2.1.1, hT.2.2.2.2.1.2⟩, ot_ex hT F (e4 10 (by decide)) (nn 12 (by decide)) rfl rfl⟩).st, F.sub (fun o ho => by unfold oEq at ho; unfold oC; omega) (by omega)⟩
    have h9 : k = 0 ∨ k = 1 ∨ k = 2 ∨ k = 3 ∨ k = 4 ∨ k = 5 := by omega
    rcases h9 with rfl | rfl | rfl | rfl | rfl | rfl <;> rfl
  · exact .inr ⟨22, 1, nI 0, S, by decide, hp.thr (fun d => SP_X1_sheet_F (d := d + 10) c1), jM.one (fun d g1 m hm => SP_X6_sheet_F (d := d + 89) hm v c1) rfl (xAg2.m6)⟩
theorem J_lay {g : xG} {x : Nat} {S : xMS} (h : xST g x S) (hK : xKs g) {a v b : Int32} : jOp Value.int M_X1_lay M_X6_lay [(23, 1), (25, 2), (26, 3)] [.int a, .int v, .int b] g x S := by
  obtain ⟨p, lk, fa, ka, la, Z, n, rr, ww, dq, da, hh, ps, sv, hp⟩ := h.p
  have hM := hp.M
  have W := hM.P.wf
  have n10 := W.n10
  have r16 := W.r16
  have w12 := W.w12
  have h0 := W.s0
  have h1 := W.s1
  have h2 := W.s2
  have p8 := hp.Pa.2.2.2.1
  have hpm := hp.Pa.2.2.1
  have h14 := hp.1
  have hPa : xr g x 2 = some dq ∧ xAD g 7 dq da hh ps ∧ True ∧ ps.length ≤ 8 := ⟨hp.Pa.1, hp.Pa.2.1, trivial, p8⟩
  have p0 := hM.P.p0
  have pl := hM.P.lt
  have hx := hp.xl
  have hlk : lk < xsz g := xlt (by rw [hM.B.lt]; decide)
  have hT := hp.Ot
  obtain ⟨sh, sg, a1, a3, q⟩ := hT.2.1.q
  have sg4 := q.2.1
  by_cases c0 : inR a (nI 0) (nI 5) = true
  · by_cases c1 : inR v (nI 0) (nI rr - nI 1) = true
    · obtain ⟨r, hr, rfl⟩ := inR_ex (by omega) c1
      obtain ⟨t7, t4, tW⟩ := wf_t7 hM hr
      by_cases c2 : inR b (nI 0) (nI (aT Z r).length - nI 1) = true
      · obtain ⟨k, hk, rfl⟩ := inR_ex (by omega) c2
        obtain ⟨pl0, hpl, rfl⟩ := inR_nat (by decide) c0
        have hpl6 : pl0 < 6 := by omega
        have ei : 23 + 20 * r + 8 + 3 * k + 1 = 23 + 20 * r + (8 + 3 * k + 1) := by omega
        have qr : ∀ (d : Nat) (g1 : xG) (m : Nat), xMod g1 m → XM M_X6_lay (d + 90) [.ref m, .int (nI pl0), .int (nI r), .int (nI k)] (xWith g1 m S) (xOne (some (.int (opLay S pl0 r k).1)) (xWith g1 m (opLay S pl0 r k).2)) := fun d g1 m hm => SP_X6_lay (d := d + 87) hm rr r16 h1 r _ hr t4 t7 pl0 k hpl6 hk
        by_cases ok : sg = 4 ∨ S 1 (23 + 20 * r + (8 + 3 * k + 1)) = nI sg
        · have ee : opLay S pl0 r k = (nI (cntB (osP (mcpy (mset S 0 6 (nI 0)) 1 9 (23 + 20 * r + 8 + 3 * k) (3 * pl0) 3)) 6), (mcpy (mset S 0 6 (nI 0)) 1 9 (23 + 20 * r + 8 + 3 * k) (3 * pl0) 3)) := by
            unfold opLay
            rw [if_neg]
            rw [a3, ei]
            rcases ok with rfl | ok
            · simp
            · simp [ok]
          simp only [ee] at qr
          have e9 : (mcpy (mset S 0 6 (nI 0)) 1 9 (23 + 20 * r + 8 + 3 * k) (3 * pl0) 3) 9 = shUp (S 9) (S 1) r k pl0 := by
            funext j
            rw [mcpy_s]
            unfold va_cpy shUp
            split
            · show S 1 _ = S 1 _
              congr 1
              omega
            · rfl
          refine .inl ⟨nI (cntB (osP (mcpy (mset S 0 6 (nI 0)) 1 9 (23 + 20 * r + 8 + 3 * k) (3 * pl0) 3)) 6), (mcpy (mset S 0 6 (nI 0)) 1 9 (23 + 20 * r + 8 + 3 * k) (3 * pl0) 3), fun d => ?_, jM.one qr rfl xAg2.rf⟩
          have z := SP_X1_lay (d := d + 10) hM a1 q hpl6 hr hk ok
          rw [← e9] at z
          refine z.mono (fun rs g' ⟨e1, e2, F⟩ _ => ?_)
          have nn : ∀ o, o ≠ 5 → o ≠ 8 → ¬ (fun o => o = 5 ∨ o = 8) o := fun o h h2 h3 => by rcases h3 with h3 | h3 <;> omega
          have nx : ¬ (fun o => o = 5 ∨ o = 8) (xown g x) := by rw [hM.ox]; exact nn 1 (by decide) (by decide)
          have hP := hM.P.fr F (fun o h1 h2 => by unfold oP at h1; omega) (nn 2 (by decide) (by decide))
          have hB := hM.B.fr F (fun j _ => F.r' hlk (by rw [hM.B.lko]; exact nn 6 (by decide) (by decide)))
          exact ⟨e1, (hp.gen (S' := (mcpy (mset S 0 6 (nI 0)) 1 9 (23 + 20 * r + 8 + 3 * k) (3 * pl0) 3)) F (nn 0 (by decide) (by decide)) (nn 2 (by decide) (by decide)) (nn 7 (by decide) (by decide)) (fun o ho => by omega) (fun j hj => F.r' hx nx) hP hB rfl rfl rfl rfl rfl ⟨⟨(F.i' hx nx).trans hT.1.1, (F.i' hx nx).trans hT.1.2⟩, e2.sh ((F.r' hx nx).trans a1) a3, ot_rw hT F (F.r' hx nx) (nn 10 (by decide) (by decide)) (nn 16 (by decide) (by decide)) rfl rfl, ot_tx hT F (F.r' hx nx) (nn 11 (by decide) (by decide)) rfl rfl, ⟨(F.i' hx nx).trans hT.2.2.2.2.1.1, hT.2.2.2.2.1.2⟩, ot_ex hT F (F.r' hx nx) (nn 12 (by decide) (by decide)) rfl rfl⟩).st, F.sub (fun o ho => by unfold oC; omega) (by omega)⟩
        · have ok' : sg ≠ 4 ∧ S 1 (23 + 20 * r + (8 + 3 * k + 1)) ≠ nI sg := ⟨fun h => ok (Or.inl h), fun h => ok (Or.inr h)⟩
          have n4 : ¬ nI sg = nI 4 := mt (nI_eq (a := sg) (b := 4) (by omega) (by omega)).mp ok'.1
          have ee : opLay S pl0 r k = (nI 0, mset (mset (mset (mset S 0 6 (nI 0)) 0 6 (nI 3)) 0 7 (nI 9)) 0 8 (S 1 (23 + 20 * r + 8 + 3 * k + 1))) := by
            unfold opLay
            rw [if_pos]
            rw [a3, ei]
            simp [n4, ok'.2]
          simp only [ee] at qr
          exact .inr ⟨26, 3, nI 0, _, by decide, hp.rf (fun d => by have z := SP_X1_lay_R (d := d + 10) hM a1 q hpl6 hr hk ok'; rw [← ei] at z; exact z), jM.one qr rfl ⟨⟨rfl, rfl, rfl⟩, ⟨rfl, rfl, rfl, rfl, rfl⟩, ⟨rfl, rfl, rfl⟩, rfl, rfl, rfl, rfl, rfl, rfl⟩⟩
      · exact .inr ⟨25, 2, nI 0, S, by decide, hp.thr (fun d => SP_X1_lay_F3 (d := d + 10) hM c0 hr c2), jM.one (fun d g1 m hm => SP_X6_lay_F2 (d := d + 87) hm rr r16 h1 r _ hr t4 t7 a b c0 c2) rfl (xAg2.m6)⟩
    · exact .inr ⟨23, 1, nI 0, S, by decide, hp.thr (fun d => SP_X1_lay_F2 (d := d + 10) hM c0 c1), jM.one (fun d g1 m hm => SP_X6_lay_F1 (d := d + 87) hm rr r16 h1 v c1 a b c0) rfl (xAg2.m6)⟩
  · exact .inr ⟨23, 1, nI 0, S, by decide, hp.thr (fun d => SP_X1_lay_F (d := d + 10) c0), jM.one (fun d g1 m hm => SP_X6_lay_F (d := d + 87) hm v b a c0) rfl (xAg2.m6)⟩
theorem mtest_5 {S : xMS} {k : Nat} {f g d : Int32} {i : Nat} (h : i < 3 * k) : mtest S k f g d 5 i = S 5 i := by
  unfold mtest
  simp only [mset, true_and]
  rw [if_neg (by omega), if_neg (by omega), if_neg (by omega), if_neg (by omega)]
theorem mtest_n {S : xMS} {k c : Nat} {a : Nat → Int32} {j : Nat} (hc : c < 3) : mtest S k (a j) (a (j + 1)) (a (j + 2)) 5 (3 * k + c) = a (j + c) := by
  have h3 : c = 0 ∨ c = 1 ∨ c = 2 := by omega
  unfold mtest
  simp only [mset, true_and]
  rcases h3 with rfl | rfl | rfl
  · rw [if_neg (by omega), if_neg (by omega), if_neg (by omega), if_pos (by omega)]
    rfl
  · rw [if_neg (by omega), if_neg (by omega), if_pos (by omega)]
  · rw [if_neg (by omega), if_pos (by omega)]
theorem tkS_u {S : xMS} : ∀ (n k : Nat), k < n → osP S k = true → ∀ c, c < 3 → tkS S n 5 (3 * cntB (osP S) k + c) = S 9 (3 * k + c)
  | 0, k, h, _, _, _ => absurd h (Nat.not_lt_zero k)
  | n + 1, k, h, ho, c, hc => by
    unfold tkS
    by_cases hn : osP S n = true
    · rw [if_pos hn]
      by_cases e : k = n
      · subst e
        exact mtest_n hc
      · have h1 := cntB_mn (P := osP S) (show k + 1 ≤ n by omega)
        rw [cntB_t ho] at h1
        rw [mtest_5 (by omega)]
        exact tkS_u n k (by omega) ho c hc
    · rw [if_neg hn]
      have e : k ≠ n := fun e => hn (by rw [← e]; exact ho)
      exact tkS_u n k (by omega) ho c hc
theorem FAr_tk {S : xMS} {n r t m : Nat} : FAr (tkS S n) r t m = FAc (S 1) r t (tkS S n 5) m := by
  funext f v
  have e1 : tR (tkS S n) r f v = fun j => tOK (S 1) (23 + 20 * r + 8 + 3 * j) f v := by
    funext j
    unfold tR
    rw [tkS_q (by decide) (by decide)]
  unfold FAr FAc
  rw [e1]
  rfl
theorem bAg.tk {S : xMS} {n : Nat} : bAg S (tkS S n) := ⟨⟨tkS_q (by decide) (by decide), tkS_q (by decide) (by decide), tkS_q (by decide) (by decide), tkS_q (by decide) (by decide), tkS_q (by decide) (by decide), tkS_q (by decide) (by decide), tkS_q (by decide) (by decide), tkS_q (by decide) (by decide), tkS_q (by decide) (by decide)⟩, fun j h6 h9 h11 => tkS_0 h6 h11⟩
theorem tkS_6 {S : xMS} : ∀ {n : Nat}, tkS S n 0 6 = nI 0
  | 0 => rfl
  | n + 1 => by
    unfold tkS
    split
    · exact tkS_6 (n := n)
    · exact tkS_6 (n := n)
theorem J_takeSheet {g : xG} {x : Nat} {S : xMS} (h : xST g x S) (hK : xKs g) {v : Int32} : jOp Value.int M_X1_takeSheet M_X6_takeSheet [(23, 1), (26, 2)] [.int v] g x S := by
  obtain ⟨p, lk, fa, ka, la, Z, n, rr, ww, dq, da, hh, ps, sv, hp⟩ := h.p
  have hM := hp.M
  have W := hM.P.wf
  have n10 := W.n10
  have r16 := W.r16
  have w12 := W.w12
  have h0 := W.s0
  have h1 := W.s1
  have h2 := W.s2
  have p8 := hp.Pa.2.2.2.1
  have hpm := hp.Pa.2.2.1
  have h14 := hp.1
  have hPa : xr g x 2 = some dq ∧ xAD g 7 dq da hh ps ∧ True ∧ ps.length ≤ 8 := ⟨hp.Pa.1, hp.Pa.2.1, trivial, p8⟩
  have p0 := hM.P.p0
  have pl := hM.P.lt
  have hx := hp.xl
  have hlk : lk < xsz g := xlt (by rw [hM.B.lt]; decide)
  have hT := hp.Ot
  obtain ⟨sh, sg, a1, a3, q9⟩ := hT.2.1.q
  by_cases c1 : inR v (nI 0) (nI rr - nI 1) = true
  · obtain ⟨r, hr, rfl⟩ := inR_ex (by omega) c1
    obtain ⟨t7, t4, tW⟩ := wf_t7 hM hr
    have q : ∀ (d : Nat) (g1 : xG) (m : Nat), xMod g1 m → XM M_X6_takeSheet (d + 90) [.ref m, .int (nI r)] (xWith g1 m S) (xOne (some (.int (opAddT (tkS S 6) r (aT Z r).length (cntB (osP S) 6) ps.length 2).1)) (xWith g1 m (opAddT (tkS S 6) r (aT Z r).length (cntB (osP S) 6) ps.length 2).2)) := fun d g1 m hm => SP_X6_takeSheet (d := d + 84) hm rr r16 h1 ps.length p8 hpm r _ hr t4 t7 tW q9.wf
    have hu : ∀ k, k < 6 → osQ (S 9) k = true → ∀ c, c < 3 → tkS S 6 5 (3 * cntB (osQ (S 9)) k + c) = S 9 (3 * k + c) := tkS_u 6
    by_cases c3 : (hindT (FAc (S 1) r (aT Z r).length (tkS S 6 5) (cntB (osP S) 6)) ((aT Z r).length + (cntB (osP S) 6))).1 = 0
    · have ee : opAddT (tkS S 6) r (aT Z r).length (cntB (osP S) 6) ps.length 2 = (nI ((aT Z r).length + (cntB (osP S) 6)), putT (push (mset (tkS S 6) 0 9 (hindT (FAc (S 1) r (aT Z r).length (tkS S 6 5) (cntB (osP S) 6)) ((aT Z r).length + (cntB (osP S) 6))).2) ps.length) r (aT Z r).length (cntB (osP S) 6)) := by unfold opAddT; rw [FAr_tk, if_pos c3]
      simp only [ee] at q
      exact .inl ⟨nI ((aT Z r).length + (cntB (osP S) 6)), _, hp.chd (pAg.u1 (pAg.pu (bAg.m9 bAg.tk)) (fun a ha => putT_q ha)) (fun j hj => by rw [putT_1 (by rw [push_1]; show tkS S 6 1 _ = _; rw [tkS_q (by decide) (by decide)]; exact t7), push_1, push_q (by decide) (by decide) (by decide)]; show tsUp (tkS S 6 1) _ _ _ _ _ = _; rw [tkS_q (by decide) (by decide)]; rfl) (fun d => SP_X1_takeSheet (d := d + 10) hM hPa a1 q9 hr hu c3), jM.one (q) (by rw [putT_q (by decide), push_0, if_neg (by decide)]; exact tkS_6) (xAg2.rf)⟩
    · have ee : opAddT (tkS S 6) r (aT Z r).length (cntB (osP S) 6) ps.length 2 = (nI 0, mset (mset (mset (mset (tkS S 6) 0 9 (hindT (FAc (S 1) r (aT Z r).length (tkS S 6 5) (cntB (osP S) 6)) ((aT Z r).length + (cntB (osP S) 6))).2) 0 6 (nI 2)) 0 7 (nI (hindT (FAc (S 1) r (aT Z r).length (tkS S 6 5) (cntB (osP S) 6)) ((aT Z r).length + (cntB (osP S) 6))).1)) 0 8 (hindT (FAc (S 1) r (aT Z r).length (tkS S 6 5) (cntB (osP S) 6)) ((aT Z r).length + (cntB (osP S) 6))).2) := by unfold opAddT; rw [FAr_tk, if_neg c3]
      simp only [ee] at q
      exact .inr ⟨26, 2, nI 0, _, by decide, hp.rfO (by omega) (fun d => SP_X1_takeSheet_R (d := d + 10) hM a1 q9 hr hu c3), jM.one (q) rfl (⟨⟨tkS_q (by decide) (by decide), tkS_q (by decide) (by decide), tkS_q (by decide) (by decide)⟩, ⟨tkS_q (by decide) (by decide), tkS_q (by decide) (by decide), tkS_q (by decide) (by decide), tkS_q (by decide) (by decide), tkS_q (by decide) (by decide)⟩, ⟨tkS_0 (by decide) (by decide), tkS_0 (by decide) (by decide), tkS_0 (by decide) (by decide)⟩, rfl, rfl, tkS_0 (by decide) (by decide), tkS_0 (by decide) (by decide), tkS_0 (by decide) (by decide), tkS_0 (by decide) (by decide)⟩)⟩
  · exact .inr ⟨23, 1, nI 0, S, by decide, hp.thr (fun d => SP_X1_takeSheet_F (d := d + 10) hM c1), jM.one (fun d g1 m hm => SP_X6_takeSheet_F (d := d + 88) hm rr r16 h1 v c1) rfl (xAg2.m6)⟩
theorem J_keepRow {g : xG} {x : Nat} {S : xMS} (h : xST g x S) (hK : xKs g) {v : Int32} : jOp Value.int M_X1_keepRow M_X6_keepRow [(23, 1)] [.int v] g x S := by
  obtain ⟨p, lk, fa, ka, la, Z, n, rr, ww, dq, da, hh, ps, sv, hp⟩ := h.p
  have hM := hp.M
  have W := hM.P.wf
  have n10 := W.n10
  have r16 := W.r16
  have w12 := W.w12
  have h0 := W.s0
  have h1 := W.s1
  have h2 := W.s2
  have p8 := hp.Pa.2.2.2.1
  have hpm := hp.Pa.2.2.1
  have h14 := hp.1
  have hPa : xr g x 2 = some dq ∧ xAD g 7 dq da hh ps ∧ True ∧ ps.length ≤ 8 := ⟨hp.Pa.1, hp.Pa.2.1, trivial, p8⟩
  have p0 := hM.P.p0
  have pl := hM.P.lt
  have hx := hp.xl
  have hlk : lk < xsz g := xlt (by rw [hM.B.lt]; decide)
  have hT := hp.Ot
  obtain ⟨rw0, r7, rQ⟩ := hT.2.2.1
  by_cases c1 : inR v (nI 0) (nI 2) = true
  · obtain ⟨t, ht, rfl⟩ := inR_nat (by decide) c1
    have ht3 : t < 3 := by omega
    refine .inl ⟨nI ww, (kpS (mset (mset S 0 6 (nI 0)) 11 t (nI ww)) t (brW (S 1) (-1) rr) ww), fun d => (SP_X1_keepRow (d := d + 9) hM rQ r7 ht3).mono (fun rs g' ⟨e1, hB, hC⟩ _ => ?_), jM.lk (fun d g1 m hm => by have z := SP_X6_keepRow (d := d + 85) hm n rr ww n10 r16 w12 h1 h2 W.o W.r W.w W.br ht3; rw [h14] at z; exact z) rfl xAg2.rf⟩
    have nn : ∀ o, o ≠ 16 → o ≠ 6 → ¬ (fun o => o = 16 ∨ oEq 6 o) o := fun o h h2 h3 => by
      rcases h3 with h3 | h3
      · exact h h3
      · exact h2 h3
    have rN := rQ.put (s10' := (kpS (mset (mset S 0 6 (nI 0)) 11 t (nI ww)) t (brW (S 1) (-1) rr) ww) 10) (s11' := (kpS (mset (mset S 0 6 (nI 0)) 11 t (nI ww)) t (brW (S 1) (-1) rr) ww) 11) hC (by unfold oEq; omega) ht3 w12 (fun j hj => ⟨by
        show (if 10 = 10 ∧ 12 * t ≤ 12 * t + j ∧ 12 * t + j < 12 * t + ww then _ else _) = _
        rw [if_pos (by omega), show 12 * t + j - 12 * t = j by omega], fOK_u (Or.inl (brV_Z W.br r16))⟩) (by rw [kpS_q (by decide)]; exact if_pos ⟨rfl, rfl⟩) (fun r he => by rw [kpS_q (by decide)]; exact if_neg (fun h => he h.2)) (fun r hr he j hj => by
        show (if 10 = 10 ∧ 12 * t ≤ 12 * r + j ∧ 12 * r + j < 12 * t + ww then _ else _) = _
        rw [if_neg (by omega)]
        rfl)
    have F := hC.choose_spec.2.2.2.2.2.2.2
    have nx : ¬ (fun o => o = 16 ∨ oEq 6 o) (xown g x) := by rw [hM.ox]; exact nn 1 (by decide) (by decide)
    have hP := hM.P.fr F (fun o h1 h2 => by unfold oP at h1; simp only [oEq] at h2; omega) (nn 2 (by decide) (by decide))
    exact ⟨e1, (hp.gen (S' := (kpS (mset (mset S 0 6 (nI 0)) 11 t (nI ww)) t (brW (S 1) (-1) rr) ww)) F (nn 0 (by decide) (by decide)) (nn 2 (by decide) (by decide)) (nn 7 (by decide) (by decide)) (fun o ho => by simp only [oEq] at ho; omega) (fun j hj => F.r' hx nx) hP hB rfl rfl rfl rfl rfl ⟨⟨(F.i' hx nx).trans hT.1.1, (F.i' hx nx).trans hT.1.2⟩, ot_sh hT F (F.r' hx nx) (nn 2 (by decide) (by decide)) (nn 8 (by decide) (by decide)) rfl rfl, ⟨rw0, (F.r' hx nx).trans r7, rN⟩, ot_tx hT F (F.r' hx nx) (nn 11 (by decide) (by decide)) rfl rfl, ⟨(F.i' hx nx).trans hT.2.2.2.2.1.1, hT.2.2.2.2.1.2⟩, ot_ex hT F (F.r' hx nx) (nn 12 (by decide) (by decide)) rfl rfl⟩).st, F.sub (fun o ho => by simp only [oEq] at ho; unfold oC; omega) (by omega)⟩
  · exact .inr ⟨23, 1, nI 0, S, by decide, hp.thr (fun d => SP_X1_keepRow_F (d := d + 9) (inR_f c1)), jM.one (fun d g1 m hm => SP_X6_keepRow_F (d := d + 85) hm v (inR_f c1)) rfl (xAg2.m6)⟩
theorem J_copyRow {g : xG} {x : Nat} {S : xMS} (h : xST g x S) (hK : xKs g) {a b c : Int32} : jOp Value.int M_X1_copyRow M_X6_copyRow [(23, 1), (22, 2), (24, 3)] [.int a, .int b, .int c] g x S := by
  obtain ⟨p, lk, fa, ka, la, Z, n, rr, ww, dq, da, hh, ps, sv, hp⟩ := h.p
  have hM := hp.M
  have W := hM.P.wf
  have n10 := W.n10
  have r16 := W.r16
  have w12 := W.w12
  have h0 := W.s0
  have h1 := W.s1
  have h2 := W.s2
  have p8 := hp.Pa.2.2.2.1
  have hpm := hp.Pa.2.2.1
  have h14 := hp.1
  have hPa : xr g x 2 = some dq ∧ xAD g 7 dq da hh ps ∧ True ∧ ps.length ≤ 8 := ⟨hp.Pa.1, hp.Pa.2.1, trivial, p8⟩
  have p0 := hM.P.p0
  have pl := hM.P.lt
  have hx := hp.xl
  have hlk : lk < xsz g := xlt (by rw [hM.B.lt]; decide)
  have hT := hp.Ot
  obtain ⟨rw0, r7, rQ⟩ := hT.2.2.1
  by_cases c1 : inR a (nI 0) (nI 2) = true
  · by_cases c2 : inR b (nI 0) (nI 2) = true
    · by_cases c3 : inR c (nI 0) (nI 1000) = true
      · obtain ⟨f, hf, rfl⟩ := inR_nat (by decide) c1
        have hf3 : f < 3 := by omega
        rcases rQ.2.2.2 f hf3 with ⟨k1, k2⟩ | ⟨ad, many, k1, k2, k3, k4, k5, k6, k7⟩
        · exact .inr ⟨24, 3, nI 0, S, by decide, hp.thr (fun d => SP_X1_copyRow_F4 (d := d + 9) hM.tx rQ r7 hf3 k2 c2 c3), jM.one (fun d g1 m hm => SP_X6_copyRow_F4 (d := d + 85) hm hf3 b c c2 c3 (by rw [k1]; decide)) rfl (xAg2.m6)⟩
        · obtain ⟨t, ht, rfl⟩ := inR_nat (by decide) c2
          obtain ⟨q, hq, rfl⟩ := inR_nat (by decide) c3
          have ht3 : t < 3 := by omega
          have hok : ∀ j, j < many → fOKu (S 10 (12 * f + j)).toUInt32 := fun j hj => fOKu_f (k7 j hj).2
          have ev : ∀ j, j < many → scV (xi g ad j).toUInt32 q = scV (S 10 (12 * f + j)).toUInt32 q := fun j hj => by rw [(k7 j hj).1]
          refine .inl ⟨nI (abF (fun j => scV (S 10 (12 * f + j)).toUInt32 q) many), (kpS (mset (mset S 0 6 (nI 0)) 11 t (nI many)) t (fun j => scV (S 10 (12 * f + j)).toUInt32 q) many), fun d => ?_, jM.one (fun d g1 m hm => SP_X6_copyRow (d := d + 85) hm hf3 ht3 hq k3 k2 hok) rfl xAg2.rf⟩
          have z := SP_X1_copyRow (d := d + 9) hM.tx hM.ox rQ r7 hf3 ht3 hq k1 k4 k6 k3 (fun j hj => by rw [(k7 j hj).1]; exact hok j hj)
          rw [abF_cg many ev] at z
          refine z.mono (fun rs g' ⟨e1, hC⟩ _ => ?_)
          have nn : ∀ o, o ≠ 16 → ¬ (fun o => o = 16 ∨ oNo o) o := fun o h h3 => by
            rcases h3 with h3 | h3
            · exact h h3
            · exact h3
          have rN := rQ.put (s10' := (kpS (mset (mset S 0 6 (nI 0)) 11 t (nI many)) t (fun j => scV (S 10 (12 * f + j)).toUInt32 q) many) 10) (s11' := (kpS (mset (mset S 0 6 (nI 0)) 11 t (nI many)) t (fun j => scV (S 10 (12 * f + j)).toUInt32 q) many) 11) hC (fun h => h) ht3 k3 (fun j hj => ⟨by
            show (if 10 = 10 ∧ 12 * t ≤ 12 * t + j ∧ 12 * t + j < 12 * t + many then _ else _) = _
            rw [if_pos (by omega), show 12 * t + j - 12 * t = j by omega, ev j hj], fOK_u (by rw [ev j hj]; exact scV_ok (hok j hj) hq)⟩) (by rw [kpS_q (by decide)]; exact if_pos ⟨rfl, rfl⟩) (fun r he => by rw [kpS_q (by decide)]; exact if_neg (fun h => he h.2)) (fun r hr he j hj => by
            show (if 10 = 10 ∧ 12 * t ≤ 12 * r + j ∧ 12 * r + j < 12 * t + many then _ else _) = _
            rw [if_neg (by omega)]
            rfl)
          have F := hC.choose_spec.2.2.2.2.2.2.2
          have nx : ¬ (fun o => o = 16 ∨ oNo o) (xown g x) := by rw [hM.ox]; exact nn 1 (by decide)
          have hP := hM.P.fr F (fun o h1 h2 => by unfold oP at h1; simp only [oNo, or_false] at h2; omega) (nn 2 (by decide))
          have hB := hM.B.fr F (fun j _ => F.r' hlk (by rw [hM.B.lko]; exact nn 6 (by decide)))
          exact ⟨e1, (hp.gen (S' := (kpS (mset (mset S 0 6 (nI 0)) 11 t (nI many)) t (fun j => scV (S 10 (12 * f + j)).toUInt32 q) many)) F (nn 0 (by decide)) (nn 2 (by decide)) (nn 7 (by decide)) (fun o ho => by simp only [oNo, or_false] at ho; omega) (fun j hj => F.r' hx nx) hP hB rfl rfl rfl rfl rfl ⟨⟨(F.i' hx nx).trans hT.1.1, (F.i' hx nx).trans hT.1.2⟩, ot_sh hT F (F.r' hx nx) (nn 2 (by decide)) (nn 8 (by decide)) rfl rfl, ⟨rw0, (F.r' hx nx).trans r7, rN⟩, ot_tx hT F (F.r' hx nx) (nn 11 (by decide)) rfl rfl, ⟨(F.i' hx nx).trans hT.2.2.2.2.1.1, hT.2.2.2.2.1.2⟩, ot_ex hT F (F.r' hx nx) (nn 12 (by decide)) rfl rfl⟩).st, F.sub (fun o ho => by simp only [oNo, or_false] at ho; unfold oC; omega) (by omega)⟩
      · exact .inr ⟨22, 2, nI 0, S, by decide, hp.thr (fun d => SP_X1_copyRow_F3 (d := d + 9) hM.tx c1 c2 (inR_f c3)), jM.one (fun d g1 m hm => SP_X6_copyRow_F3 (d := d + 85) hm a b c c1 c2 (inR_f c3)) rfl (xAg2.m6)⟩
    · exact .inr ⟨23, 1, nI 0, S, by decide, hp.thr (fun d => SP_X1_copyRow_F2 (d := d + 9) hM.tx c1 (inR_f c2)), jM.one (fun d g1 m hm => SP_X6_copyRow_F2 (d := d + 85) hm a b c c1 (inR_f c2)) rfl (xAg2.m6)⟩
  · exact .inr ⟨23, 1, nI 0, S, by decide, hp.thr (fun d => SP_X1_copyRow_F1 (d := d + 9) hM.tx (inR_f c1)), jM.one (fun d g1 m hm => SP_X6_copyRow_F1 (d := d + 85) hm a b c (inR_f c1)) rfl (xAg2.m6)⟩
theorem J_element {g : xG} {x : Nat} {S : xMS} (h : xST g x S) (hK : xKs g) {a b : Int32} : jOp Value.int M_X1_element M_X6_element [(23, 1), (24, 2), (25, 3)] [.int a, .int b] g x S := by
  obtain ⟨p, lk, fa, ka, la, Z, n, rr, ww, dq, da, hh, ps, sv, hp⟩ := h.p
  have hM := hp.M
  have W := hM.P.wf
  have n10 := W.n10
  have r16 := W.r16
  have w12 := W.w12
  have h0 := W.s0
  have h1 := W.s1
  have h2 := W.s2
  have p8 := hp.Pa.2.2.2.1
  have hpm := hp.Pa.2.2.1
  have h14 := hp.1
  have hPa : xr g x 2 = some dq ∧ xAD g 7 dq da hh ps ∧ True ∧ ps.length ≤ 8 := ⟨hp.Pa.1, hp.Pa.2.1, trivial, p8⟩
  obtain ⟨rw0, r7, rQ⟩ := hp.Ot.2.2.1
  by_cases c1 : inR a (nI 0) (nI 2) = true
  · obtain ⟨f, hf, rfl⟩ := inR_nat (by decide) c1
    have hf3 : f < 3 := by omega
    rcases rQ.2.2.2 f hf3 with ⟨k1, k2⟩ | ⟨ad, many, k1, k2, k3, k4, k5, k6, k7⟩
    · exact .inr ⟨24, 2, nI 0, S, by decide, hp.thr (fun d => SP_X1_element_F2 (d := d + 9) rQ hM.tx r7 hf3 k2), jM.one (fun d g1 m hm => SP_X6_element_F2 (d := d + 85) hm hf3 b (by rw [k1]; decide)) rfl (xAg2.m6)⟩
    · by_cases c2 : inR b (nI 0) (nI many - nI 1) = true
      · obtain ⟨j, hj, rfl⟩ := inR_ex (by omega) c2
        have ej := (k7 j hj).1
        have oj := fOKu_f (k7 j hj).2
        exact .inl ⟨S 10 (12 * f + j), S, hp.one (fun d => by have z := SP_X1_element (d := d + 9) rQ hM.tx r7 hf3 k1 k4 k6 k3 hj (by rw [ej]; exact oj); rw [ej] at z; exact z), jM.one (fun d g1 m hm => SP_X6_element (d := d + 85) hm hf3 k3 k2 hj oj) rfl (xAg2.m6)⟩
      · exact .inr ⟨25, 3, nI 0, S, by decide, hp.thr (fun d => SP_X1_element_F3 (d := d + 9) rQ hM.tx r7 hf3 k1 k4 k6 k3 (inR_f c2)), jM.one (fun d g1 m hm => SP_X6_element_F3 (d := d + 85) hm hf3 b k3 k2 (inR_f c2)) rfl (xAg2.m6)⟩
  · exact .inr ⟨23, 1, nI 0, S, by decide, hp.thr (fun d => SP_X1_element_F1 (d := d + 9) rQ hM.tx r7 (inR_f c1)), jM.one (fun d g1 m hm => SP_X6_element_F1 (d := d + 85) hm a b (inR_f c1)) rfl (xAg2.m6)⟩
theorem J_total {g : xG} {x : Nat} {S : xMS} (h : xST g x S) (hK : xKs g) {a : Int32} : jOp Value.double M_X1_total M_X6_total [(23, 1), (24, 2)] [.int a] g x S := by
  obtain ⟨p, lk, fa, ka, la, Z, n, rr, ww, dq, da, hh, ps, sv, hp⟩ := h.p
  have hM := hp.M
  have W := hM.P.wf
  have n10 := W.n10
  have r16 := W.r16
  have w12 := W.w12
  have h0 := W.s0
  have h1 := W.s1
  have h2 := W.s2
  have p8 := hp.Pa.2.2.2.1
  have hpm := hp.Pa.2.2.1
  have h14 := hp.1
  have hPa : xr g x 2 = some dq ∧ xAD g 7 dq da hh ps ∧ True ∧ ps.length ≤ 8 := ⟨hp.Pa.1, hp.Pa.2.1, trivial, p8⟩
  obtain ⟨rw0, r7, rQ⟩ := hp.Ot.2.2.1
  by_cases c1 : inR a (nI 0) (nI 2) = true
  · obtain ⟨f, hf, rfl⟩ := inR_nat (by decide) c1
    have hf3 : f < 3 := by omega
    rcases rQ.2.2.2 f hf3 with ⟨k1, k2⟩ | ⟨ad, many, k1, k2, k3, k4, k5, k6, k7⟩
    · exact .inr ⟨24, 2, FP.dconst0, S, by decide, hp.thr (fun d => SP_X1_total_F2 (d := d + 9) rQ hM.tx r7 hf3 k2), jM.one (fun d g1 m hm => SP_X6_total_F2 (d := d + 85) hm hf3 (by rw [k1]; decide)) rfl (xAg2.m6)⟩
    · have ej : ∀ i, i < many + 0 → (xi g ad i).toUInt32 = (S 10 (12 * f + i)).toUInt32 := fun i hi => by rw [(k7 i hi).1]
      exact .inl ⟨_, S, hp.one (fun d => by have z := SP_X1_total (d := d + 9) rQ hM.tx r7 hf3 k1 k4 k6 k3 (fun j hj => by rw [(k7 j hj).1]; exact fOKu_f (k7 j hj).2); rw [toF_cg many 0 _ ej] at z; exact z), jM.one (fun d g1 m hm => SP_X6_total (d := d + 85) hm hf3 k3 k2 (fun j hj => fOKu_f (k7 j hj).2)) rfl (xAg2.m6)⟩
  · exact .inr ⟨23, 1, FP.dconst0, S, by decide, hp.thr (fun d => SP_X1_total_F1 (d := d + 9) rQ hM.tx r7 (inR_f c1)), jM.one (fun d g1 m hm => SP_X6_total_F1 (d := d + 85) hm a (inR_f c1)) rfl (xAg2.m6)⟩
