/-! CLASS 44: the sheet, taken -/
set_option maxRecDepth 100000
/-- what lies on the sheet, in its order -/
def shL (g : xG) (sh : Nat) (s9 : Nat → Int32) : Nat → List Nat
  | 0 => []
  | k + 1 => if osQ s9 k = true then shL g sh s9 k ++ [(xr g sh k).getD 0] else shL g sh s9 k
theorem shL_len {g : xG} {sh : Nat} {s9 : Nat → Int32} : ∀ {k : Nat}, (shL g sh s9 k).length = cntB (osQ s9) k := by
  intro k
  induction k with
  | zero => rfl
  | succ k ih =>
    by_cases h : osQ s9 k = true
    · rw [cntB_t h, show shL g sh s9 (k + 1) = shL g sh s9 k ++ [(xr g sh k).getD 0] from if_pos h, List.length_append, ih]; rfl
    · rw [cntB_f (Bool.eq_false_iff.mpr h), show shL g sh s9 (k + 1) = shL g sh s9 k from if_neg h, ih]; rfl
theorem cntB_mn {P : Nat → Bool} {a b : Nat} (h : a ≤ b) : cntB P a ≤ cntB P b := by
  induction b with
  | zero => rw [show a = 0 from by omega]; exact Nat.le_refl _
  | succ b ih =>
    by_cases e : a = b + 1
    · rw [e]; exact Nat.le_refl _
    · have := ih (by omega)
      by_cases hp : P b = true
      · rw [cntB_t hp]; omega
      · rw [cntB_f (Bool.eq_false_iff.mpr hp)]; omega
/-- each is a test, as u says -/
theorem shL_te {g : xG} {sh Q sg : Nat} {s9 u : Nat → Int32} (hS : xShQ g sh Q sg s9) (hu : ∀ k, k < 6 → osQ s9 k = true → ∀ c, c < 3 → u (3 * cntB (osQ s9) k + c) = s9 (3 * k + c)) : ∀ {k : Nat}, k ≤ 6 → ∀ i, i < cntB (osQ s9) k → xTe g ((shL g sh s9 k).getD i 0) u (3 * i) := by
  intro k
  induction k with
  | zero => intro _ i hi; exact absurd hi (Nat.not_lt_zero i)
  | succ k ih =>
    intro hk i hi
    by_cases h : osQ s9 k = true
    · rw [cntB_t h] at hi
      rw [show shL g sh s9 (k + 1) = shL g sh s9 k ++ [(xr g sh k).getD 0] from if_pos h]
      by_cases e : i = cntB (osQ s9) k
      · have e2 : (shL g sh s9 k ++ [(xr g sh k).getD 0]).getD i 0 = (xr g sh k).getD 0 := by rw [e, ← shL_len (g := g) (sh := sh)]; exact getD_app2
        rw [e2]
        rcases hS.2.2.2.2.2 k (by omega) with ⟨q1, -⟩ | ⟨b, q1, q2, -⟩
        · rw [osQ_f q1] at h; cases h
        · rw [q1]
          obtain ⟨c1, c2, c3, c4, c5, c6, c7, c8, c9⟩ := q2
          have f := hu k (by omega) h
          rw [← e] at f
          have f0 := f 0 (by omega)
          have f1 := f 1 (by omega)
          have f2 := f 2 (by omega)
          refine ⟨c1, c2, c3, ?_, ?_, ?_, ?_, ?_, ?_⟩
          · unfold isN aN at c4 ⊢; rw [show 3 * i = 3 * i + 0 from rfl, f0]; exact c4
          · unfold isN aN at c5 ⊢; rw [f1]; exact c5
          · unfold isN aN at c6 ⊢; rw [f2]; exact c6
          · unfold aN at c7 ⊢; rw [f1]; exact c7
          · exact c8.trans f0.symm
          · exact c9.trans f2.symm
      · rw [getD_app3 (by rw [shL_len]; omega)]
        exact ih (by omega) i (by omega)
    · rw [cntB_f (Bool.eq_false_iff.mpr h)] at hi
      rw [show shL g sh s9 (k + 1) = shL g sh s9 k from if_neg h]
      exact ih (by omega) i hi
theorem tl_X1_takeSheet {d : Nat} {g g0 : xG} {ua N : Nat} {x p lk fa ka la n rr ww : Nat} {Z : xAd} {S : xMS} (hM : xMn g x p lk fa ka la Z S n rr ww) {dq da h : Nat} {ps : List Nat} (hPa : xr g x 2 = some dq ∧ xAD g 7 dq da h ps ∧ True ∧ ps.length ≤ 8) {r : Nat} {us : List Nat} {u : Nat → Int32} (hr : r < rr) (hu : ∀ k, k < us.length → xTe g (us.getD k 0) u (3 * k)) (hA : xtag g ua = 109 ∧ xown g ua = 2 ∧ xlen g ua = us.length ∧ ∀ i, i < us.length → xr g ua i = some (us.getD i 0)) (hl6 : us.length ≤ 6) (F0 : xFr oNo N g0 g) (hN0 : N ≤ 90) (hx0 : x < xsz g0 ∧ xtag g0 x = 1 ∧ xown g0 x = 1) (hv : (hindT (FAc (S 1) r (aT Z r).length u us.length) ((aT Z r).length + us.length)).1 = 0) : XW M_X1_takeSheet (d + 80) 60 [(5, .int (nI 6)), (4, .int (nI us.length)), (3, .ref ua), (2, .ref ((aR Z).getD r 0)), (0, .ref x), (1, .int (nI r))] [] g (xVal (.int (nI ((aT Z r).length + us.length))) (xChd g0 p dq da (S 1) ps (tsUp (S 1) r (aT Z r).length u us.length) n rr ww)) := by
  have hz : xsz g0 ≤ xsz g := F0.le
  have hlr := hM.P.lr
  have r16 := hM.P.wf.r16
  refine xw_aload_n (pc := 60) dX1_takeSheet_60 4 rfl ?_
  refine xw_getS (b := p) (pc := 61) fd_X1_10 dX1_takeSheet_61 (by first | assumption | (simp [-List.getD_eq_getElem?_getD, xE_setI, xsz_setI, xsl_setI, xtag_setI, xown_setI, xlen_setI, xE_setR, xsz_setR, xsl_setR, xtag_setR, xown_setR, xlen_setR, xE_setW, xsz_setW, xsl_setW, xtag_setW, xown_setW, xlen_setW, xi_setR, xi_setW, xr_setI, xr_setW, xww_setI, xww_setR, xi_setI, xr_setR, xww_setW, xE_new, xsz_new, xsl_new, hM.tx, hM.xp, hM.l3, xsub]; done) | (simp [-List.getD_eq_getElem?_getD, xE_setI, xsz_setI, xsl_setI, xtag_setI, xown_setI, xlen_setI, xE_setR, xsz_setR, xsl_setR, xtag_setR, xown_setR, xlen_setR, xE_setW, xsz_setW, xsl_setW, xtag_setW, xown_setW, xlen_setW, xi_setR, xi_setW, xr_setI, xr_setW, xww_setI, xww_setR, xi_setI, xr_setR, xww_setW, xE_new, xsz_new, xsl_new, hM.tx, hM.xp, hM.l3] <;> rfl)) (by simp [-List.getD_eq_getElem?_getD, xE_setI, xsz_setI, xsl_setI, xtag_setI, xown_setI, xlen_setI, xE_setR, xsz_setR, xsl_setR, xtag_setR, xown_setR, xlen_setR, xE_setW, xsz_setW, xsl_setW, xtag_setW, xown_setW, xlen_setW, xi_setR, xi_setW, xr_setI, xr_setW, xww_setI, xww_setR, xi_setI, xr_setR, xww_setW, xE_new, xsz_new, xsl_new, hM.tx, hM.xp, hM.l3]) ?_
  refine xw_callF (pc := 64) (xr_V (as := []) ok_X2_copy rfl (by decide) q902 q903 q904 (by rw [hM.P.tag]; rfl) (by rw [hM.P.tag]; rfl) dX1_takeSheet_64 rfl rfl (Nat.le_of_ble_eq_true rfl)) (SP_X2_copy (d := d + 70) hM.P) ?_
  intro g64 hc64 hm64
  obtain ⟨Zq, hPq, FC⟩ := hc64
  have hp0 := hM.P.p0
  have hlp := hM.P.lt
  have hxl : x < xsz g := xlt (by rw [hM.tx]; decide)
  have nxC : ¬ oP (xsz g) (xown g x) := by rw [hM.ox]; unfold oP; omega
  have oKC : oKeep (oP (xsz g)) := by unfold oKeep oP; omega
  have hP2 := hM.P.fr FC (fun o h1 h2 => by unfold oP at h1 h2; omega) (by unfold oP; omega)
  have hMc := hM.fr FC oKC hP2
  have hDc := hPa.2.1.fr FC (by unfold oP; omega)
  have txC : xtag g64 x = 1 := hMc.tx
  refine xw_astore (l' := [(5, _), (4, _), (3, _), (2, _), (0, _), (1, _)]) (pc := 67) dX1_takeSheet_67 (by decide) rfl ?_
  refine xw_aload_n (pc := 69) dX1_takeSheet_69 4 rfl ?_
  refine xw_aload_n (pc := 70) dX1_takeSheet_70 4 rfl ?_
  refine xw_aload_n (pc := 71) dX1_takeSheet_71 3 rfl ?_
  refine xw_aload_n (pc := 72) dX1_takeSheet_72 2 rfl ?_
  have hTB := (hP2.ru hr).2.2.2.2.2.2.2.2.2.1
  have tbB : xtag g64 ((aR Z).getD r 0) = 6 ∨ xtag g64 ((aR Z).getD r 0) = 7 := (hP2.ru hr).1
  have sbB : xsub 90 (xtag g64 ((aR Z).getD r 0)) = true := xRu_x (hP2.ru hr)
  have fbB : xr g64 ((aR Z).getD r 0) 6 = some (aTl Z r) := (hP2.ru hr).2.2.2.2.2.2.2.1
  have alB := (hP2.ru hr).2.2.2.2.2.2.2.2.1
  have obB : xown g64 ((aR Z).getD r 0) = 1000 * p := (hP2.rp hr).2.1
  have hlB : ((aR Z).getD r 0) < xsz g64 := xlt (by rcases tbB with z | z <;> rw [z] <;> decide)
  have huB : ∀ k, k < us.length → xTe g64 (us.getD k 0) u (3 * k) := fun k hk => (hu k hk).fr FC (by unfold oP; omega)
  have t7 : (aT Z r).length ≤ 4 := by have h5 := hTB.1; have h6 := (hM.P.wf.ru hr).2.2.2.2.2.1.2; omega
  have rpB := hP2.rp hr
  have hlua : ua < xsz g := xlt (by rw [hA.1]; decide)
  have nua : ¬ oP (xsz g) (xown g ua) := by rw [hA.2.1]; unfold oP; omega
  have HA : xAdd g64 ((aR Z).getD r 0) (1000 * p + 10 + r) (aTl Z r) (aTa Z r) ua (aT Z r) us := ⟨tbB, fbB, by rw [obB]; omega, by omega, alB, ⟨fun j hj => ?_, fun j hj => ?_⟩, ⟨(FC.tag hlua).trans hA.1, by rw [FC.own hlua, hA.2.1]; omega, (FC.len hlua).trans hA.2.2.1, fun i hi => (FC.r' hlua nua).trans (hA.2.2.2 i hi)⟩, t7, hl6⟩
  rotate_left
  · by_cases e : j < (aT Z r).length
    · rw [getD_app3 e]; exact ⟨(hTB.2 j e).1, (hTB.2 j e).2.1⟩
    · rw [List.length_append] at hj
      have e2 : j = (aT Z r).length + (j - (aT Z r).length) := by omega
      have q := huB (j - (aT Z r).length) (by omega)
      rw [e2, getD_app4]; exact ⟨q.1, q.2.1⟩
  · by_cases e : j < (aT Z r).length
    · rw [getD_app3 e]; exact rpB.2.2.2 j e
    · rw [List.length_append] at hj
      have e2 : j = (aT Z r).length + (j - (aT Z r).length) := by omega
      have q := huB (j - (aT Z r).length) (by omega)
      rw [e2, getD_app4]; exact q.2.2.1
  
  refine xw_callA (pc := 73) (xr_V (as := [_, _]) ok_X1_adds rfl (by decide) q1418 q1420 qs23 (by first | (rw [tx9]; rfl) | (rw [hM9.tx]; rfl) | (rw [hMc.tx]; rfl) | (rw [hM.tx]; rfl)) (by first | (rw [tx9]; rfl) | (rw [hM9.tx]; rfl) | (rw [hMc.tx]; rfl) | (rw [hM.tx]; rfl)) dX1_takeSheet_73 rfl rfl (Nat.le_of_ble_eq_true rfl)) (SP_X1_adds (d := d + 59) (x := x) HA (by rw [obB]; omega)) ?_
  intro a73 g73 hc73 hm73
  have hw9 : xWy g73 a73 (hindT (FAc (S 1) r (aT Z r).length u us.length) ((aT Z r).length + us.length)) := hc73.1.congr (adW_s (g := g64) (s := S 1) (u := u) hTB huB)
  have e0 : (adW g64 (aT Z r ++ us)).1 = (hindT (FAc (S 1) r (aT Z r).length u us.length) ((aT Z r).length + us.length)).1 := (adW_s (g := g64) (s := S 1) (u := u) hTB huB).1
  obtain ⟨-, ⟨arr', hAL, hLE⟩, F73⟩ := hc73
  rw [if_pos (e0.trans hv)] at hAL
  have hm4 : (aT Z r).length + us.length ≤ 4 := hindT_c (FA := FAc (S 1) r (aT Z r).length u us.length) (by omega)
  have hP9 : xPol g73 p _ (tsUp (S 1) r (aT Z r).length u us.length) n rr ww := hP2.addT (us := us) hr F73 (fun o h => h) hAL (Nat.le_trans (hP2.rp hr).2.2.1 hLE) hm4 (fun k hk => (huB k hk).fr F73 (by omega))
  have F2 : xFr (oP5 p) 7000 g64 g73 := F73.sub (fun o h1 => by unfold oP5 oP; rcases h1 with z | z <;> omega) (Nat.le_refl _)
  have oKP : oKeep (oP5 p) := by unfold oKeep oP5 oP; omega
  have hM9 := hMc.fr (S' := fun _ => (tsUp (S 1) r (aT Z r).length u us.length)) F2 oKP hP9
  have hD9 := hDc.fr F2 (by unfold oP5 oP; omega)
  have hPq9 := hPq.fr F2 (fun o h1 h2 => by unfold oP at h1; unfold oP5 oP at h2; omega) (by unfold oP5 oP; omega)
  have nx9 : ¬ oP5 p (xown g64 x) := by rw [hMc.ox]; unfold oP5 oP; omega
  have hx29 : xr g73 x 2 = some dq := (F2.r' (FC.lt hxl) nx9).trans ((FC.r' hxl nxC).trans hPa.1)
  have tx9 : xtag g73 x = 1 := hM9.tx
  have fb9 : xr g73 ((aR Z).getD r 0) 6 = some (aTl Z r) := (F73.r' hlB (by rw [obB]; omega)).trans fbB
  have sb9 : xsub 90 (xtag g73 ((aR Z).getD r 0)) = true := by rw [F73.tag hlB]; exact sbB
  have al9 : xAL g73 (1000 * p + 10 + r) (aTl Z r) arr' (aT Z r ++ us) := hAL
  have ll9 : (aT Z r ++ us).length = (aT Z r).length + us.length := List.length_append
  refine xw_callU (pc := 76) (xr_V (as := [_]) ok_X1_refuse rfl (by decide) q1302 q1304 qs22 (by first | (rw [tx9]; rfl) | (rw [hM9.tx]; rfl) | (rw [hMc.tx]; rfl) | (rw [hM.tx]; rfl)) (by first | (rw [tx9]; rfl) | (rw [hM9.tx]; rfl) | (rw [hMc.tx]; rfl) | (rw [hM.tx]; rfl)) dX1_takeSheet_76 rfl rfl (Nat.le_of_ble_eq_true rfl)) (SP_X1_refuse_N hw9 hv) ?_
  refine xw_aload_n (pc := 79) dX1_takeSheet_79 4 rfl ?_
  refine xw_aload (pc := 80) dX1_takeSheet_80 0 rfl ?_
  refine xw_aload_n (pc := 82) dX1_takeSheet_82 3 rfl ?_
  refine xw_getS (b := (aTl Z r)) (pc := 83) fd_X1_262 dX1_takeSheet_83 (by first | assumption | (simp [-List.getD_eq_getElem?_getD, xE_setI, xsz_setI, xsl_setI, xtag_setI, xown_setI, xlen_setI, xE_setR, xsz_setR, xsl_setR, xtag_setR, xown_setR, xlen_setR, xE_setW, xsz_setW, xsl_setW, xtag_setW, xown_setW, xlen_setW, xi_setR, xi_setW, xr_setI, xr_setW, xww_setI, xww_setR, xi_setI, xr_setR, xww_setW, xE_new, xsz_new, xsl_new, hM.tx, hM.xp, hM.l3, txC, tx9, fb9, sb9, xsub]; done) | (simp [-List.getD_eq_getElem?_getD, xE_setI, xsz_setI, xsl_setI, xtag_setI, xown_setI, xlen_setI, xE_setR, xsz_setR, xsl_setR, xtag_setR, xown_setR, xlen_setR, xE_setW, xsz_setW, xsl_setW, xtag_setW, xown_setW, xlen_setW, xi_setR, xi_setW, xr_setI, xr_setW, xww_setI, xww_setR, xi_setI, xr_setR, xww_setW, xE_new, xsz_new, xsl_new, hM.tx, hM.xp, hM.l3, txC, tx9, fb9, sb9] <;> rfl)) (by simp [-List.getD_eq_getElem?_getD, xE_setI, xsz_setI, xsl_setI, xtag_setI, xown_setI, xlen_setI, xE_setR, xsz_setR, xsl_setR, xtag_setR, xown_setR, xlen_setR, xE_setW, xsz_setW, xsl_setW, xtag_setW, xown_setW, xlen_setW, xi_setR, xi_setW, xr_setI, xr_setW, xww_setI, xww_setR, xi_setI, xr_setR, xww_setW, xE_new, xsz_new, xsl_new, hM.tx, hM.xp, hM.l3, txC, tx9, fb9, sb9]) ?_
  refine xw_callV (pc := 86) (xr_V (as := []) ok_J2_size rfl (by decide) q701 q702 q703 (by rw [al9.1]; rfl) (by rw [al9.1]; rfl) dX1_takeSheet_86 rfl rfl (Nat.le_of_ble_eq_true rfl)) ((show XM M_J2_size (d + 79) [.ref (aTl Z r)] g73 (xOne (some (.int (nI ((aT Z r).length + us.length)))) g73) from ll9 ▸ SP_J2_size al9)) ?_
  refine xw_callF (pc := 89) (xr_V (as := [_, _]) ok_X1_changed rfl (by decide) q1110 q1112 qs19 (by first | (rw [tx9]; rfl) | (rw [hM9.tx]; rfl) | (rw [hMc.tx]; rfl) | (rw [hM.tx]; rfl)) (by first | (rw [tx9]; rfl) | (rw [hM9.tx]; rfl) | (rw [hMc.tx]; rfl) | (rw [hM.tx]; rfl)) dX1_takeSheet_89 rfl rfl (Nat.le_of_ble_eq_true rfl)) (SP_X1_changed hM9.tx hx29 hM9.ox hD9 hPa.2.2.2 hPq9.tag) ?_
  intro g89 hc89 hm89
  refine xw_iret (pc := 92) .int dX1_takeSheet_92 rfl ?_ 
  exact ⟨rfl, _, _, _, hP9.fr hc89.2 (fun o h1 h2 => by unfold oP at h1; unfold oEq at h2; omega) (by unfold oEq; omega), hz, ⟨_, _, _, _, hPq9.fr hc89.2 (fun o h1 h2 => by unfold oP at h1; unfold oEq at h2; omega) (by unfold oEq; omega)⟩, hc89.1.choose_spec, ((((F0.sub (O' := oCh p (xsz g0)) (fun o h1 => absurd h1 (fun z => z)) (Nat.le_refl _)).tr (FC.sub (fun o h1 => by unfold oP at h1; unfold oCh; omega) (Nat.le_refl _))).tr (F2.sub (fun o h1 => by unfold oP5 oP at h1; unfold oCh oP; omega) (Nat.le_refl _))).tr (hc89.2.sub (fun o h1 => Or.inr (Or.inl h1)) (Nat.le_refl _))).sub (fun _ h => h) (by omega)⟩
theorem tl_X1_takeSheet_R {d : Nat} {g g0 : xG} {ua N : Nat} {x p lk fa ka la n rr ww : Nat} {Z : xAd} {S : xMS} (hM : xMn g x p lk fa ka la Z S n rr ww) {r : Nat} {us : List Nat} {u : Nat → Int32} (hr : r < rr) (hu : ∀ k, k < us.length → xTe g (us.getD k 0) u (3 * k)) (hA : xtag g ua = 109 ∧ xown g ua = 2 ∧ xlen g ua = us.length ∧ ∀ i, i < us.length → xr g ua i = some (us.getD i 0)) (hl6 : us.length ≤ 6) (F0 : xFr oNo N g0 g) (hN0 : N ≤ 90) (hx0 : x < xsz g0 ∧ xtag g0 x = 1 ∧ xown g0 x = 1) (hv : (hindT (FAc (S 1) r (aT Z r).length u us.length) ((aT Z r).length + us.length)).1 ≠ 0) : XW M_X1_takeSheet (d + 80) 60 [(5, .int (nI 6)), (4, .int (nI us.length)), (3, .ref ua), (2, .ref ((aR Z).getD r 0)), (0, .ref x), (1, .int (nI r))] [] g (xRefO g0 x (fun o => o = 5 ∨ oP p o ∨ 1000 * xsz g0 ≤ o) 9010 (hindT (FAc (S 1) r (aT Z r).length u us.length) ((aT Z r).length + us.length)) (fun g' => ∃ Z', xPol g' p Z' (S 1) n rr ww)) := by
  have hz : xsz g0 ≤ xsz g := F0.le
  have hlr := hM.P.lr
  have r16 := hM.P.wf.r16
  refine xw_aload_n (pc := 60) dX1_takeSheet_60 4 rfl ?_
  refine xw_getS (b := p) (pc := 61) fd_X1_10 dX1_takeSheet_61 (by first | assumption | (simp [-List.getD_eq_getElem?_getD, xE_setI, xsz_setI, xsl_setI, xtag_setI, xown_setI, xlen_setI, xE_setR, xsz_setR, xsl_setR, xtag_setR, xown_setR, xlen_setR, xE_setW, xsz_setW, xsl_setW, xtag_setW, xown_setW, xlen_setW, xi_setR, xi_setW, xr_setI, xr_setW, xww_setI, xww_setR, xi_setI, xr_setR, xww_setW, xE_new, xsz_new, xsl_new, hM.tx, hM.xp, hM.l3, xsub]; done) | (simp [-List.getD_eq_getElem?_getD, xE_setI, xsz_setI, xsl_setI, xtag_setI, xown_setI, xlen_setI, xE_setR, xsz_setR, xsl_setR, xtag_setR, xown_setR, xlen_setR, xE_setW, xsz_setW, xsl_setW, xtag_setW, xown_setW, xlen_setW, xi_setR, xi_setW, xr_setI, xr_setW, xww_setI, xww_setR, xi_setI, xr_setR, xww_setW, xE_new, xsz_new, xsl_new, hM.tx, hM.xp, hM.l3] <;> rfl)) (by simp [-List.getD_eq_getElem?_getD, xE_setI, xsz_setI, xsl_setI, xtag_setI, xown_setI, xlen_setI, xE_setR, xsz_setR, xsl_setR, xtag_setR, xown_setR, xlen_setR, xE_setW, xsz_setW, xsl_setW, xtag_setW, xown_setW, xlen_setW, xi_setR, xi_setW, xr_setI, xr_setW, xww_setI, xww_setR, xi_setI, xr_setR, xww_setW, xE_new, xsz_new, xsl_new, hM.tx, hM.xp, hM.l3]) ?_
  refine xw_callF (pc := 64) (xr_V (as := []) ok_X2_copy rfl (by decide) q902 q903 q904 (by rw [hM.P.tag]; rfl) (by rw [hM.P.tag]; rfl) dX1_takeSheet_64 rfl rfl (Nat.le_of_ble_eq_true rfl)) (SP_X2_copy (d := d + 70) hM.P) ?_
  intro g64 hc64 hm64
  obtain ⟨Zq, hPq, FC⟩ := hc64
  have hp0 := hM.P.p0
  have hlp := hM.P.lt
  have hxl : x < xsz g := xlt (by rw [hM.tx]; decide)
  have nxC : ¬ oP (xsz g) (xown g x) := by rw [hM.ox]; unfold oP; omega
  have oKC : oKeep (oP (xsz g)) := by unfold oKeep oP; omega
  have hP2 := hM.P.fr FC (fun o h1 h2 => by unfold oP at h1 h2; omega) (by unfold oP; omega)
  have hMc := hM.fr FC oKC hP2
  have txC : xtag g64 x = 1 := hMc.tx
  refine xw_astore (l' := [(5, _), (4, _), (3, _), (2, _), (0, _), (1, _)]) (pc := 67) dX1_takeSheet_67 (by decide) rfl ?_
  refine xw_aload_n (pc := 69) dX1_takeSheet_69 4 rfl ?_
  refine xw_aload_n (pc := 70) dX1_takeSheet_70 4 rfl ?_
  refine xw_aload_n (pc := 71) dX1_takeSheet_71 3 rfl ?_
  refine xw_aload_n (pc := 72) dX1_takeSheet_72 2 rfl ?_
  have hTB := (hP2.ru hr).2.2.2.2.2.2.2.2.2.1
  have tbB : xtag g64 ((aR Z).getD r 0) = 6 ∨ xtag g64 ((aR Z).getD r 0) = 7 := (hP2.ru hr).1
  have sbB : xsub 90 (xtag g64 ((aR Z).getD r 0)) = true := xRu_x (hP2.ru hr)
  have fbB : xr g64 ((aR Z).getD r 0) 6 = some (aTl Z r) := (hP2.ru hr).2.2.2.2.2.2.2.1
  have alB := (hP2.ru hr).2.2.2.2.2.2.2.2.1
  have obB : xown g64 ((aR Z).getD r 0) = 1000 * p := (hP2.rp hr).2.1
  have hlB : ((aR Z).getD r 0) < xsz g64 := xlt (by rcases tbB with z | z <;> rw [z] <;> decide)
  have huB : ∀ k, k < us.length → xTe g64 (us.getD k 0) u (3 * k) := fun k hk => (hu k hk).fr FC (by unfold oP; omega)
  have t7 : (aT Z r).length ≤ 4 := by have h5 := hTB.1; have h6 := (hM.P.wf.ru hr).2.2.2.2.2.1.2; omega
  have rpB := hP2.rp hr
  have hlua : ua < xsz g := xlt (by rw [hA.1]; decide)
  have nua : ¬ oP (xsz g) (xown g ua) := by rw [hA.2.1]; unfold oP; omega
  have HA : xAdd g64 ((aR Z).getD r 0) (1000 * p + 10 + r) (aTl Z r) (aTa Z r) ua (aT Z r) us := ⟨tbB, fbB, by rw [obB]; omega, by omega, alB, ⟨fun j hj => ?_, fun j hj => ?_⟩, ⟨(FC.tag hlua).trans hA.1, by rw [FC.own hlua, hA.2.1]; omega, (FC.len hlua).trans hA.2.2.1, fun i hi => (FC.r' hlua nua).trans (hA.2.2.2 i hi)⟩, t7, hl6⟩
  rotate_left
  · by_cases e : j < (aT Z r).length
    · rw [getD_app3 e]; exact ⟨(hTB.2 j e).1, (hTB.2 j e).2.1⟩
    · rw [List.length_append] at hj
      have e2 : j = (aT Z r).length + (j - (aT Z r).length) := by omega
      have q := huB (j - (aT Z r).length) (by omega)
      rw [e2, getD_app4]; exact ⟨q.1, q.2.1⟩
  · by_cases e : j < (aT Z r).length
    · rw [getD_app3 e]; exact rpB.2.2.2 j e
    · rw [List.length_append] at hj
      have e2 : j = (aT Z r).length + (j - (aT Z r).length) := by omega
      have q := huB (j - (aT Z r).length) (by omega)
      rw [e2, getD_app4]; exact q.2.2.1
  
  refine xw_callA (pc := 73) (xr_V (as := [_, _]) ok_X1_adds rfl (by decide) q1418 q1420 qs23 (by first | (rw [tx9]; rfl) | (rw [hM9.tx]; rfl) | (rw [hMc.tx]; rfl) | (rw [hM.tx]; rfl)) (by first | (rw [tx9]; rfl) | (rw [hM9.tx]; rfl) | (rw [hMc.tx]; rfl) | (rw [hM.tx]; rfl)) dX1_takeSheet_73 rfl rfl (Nat.le_of_ble_eq_true rfl)) (SP_X1_adds (d := d + 59) (x := x) HA (by rw [obB]; omega)) ?_
  intro a73 g73 hc73 hm73
  have hw9 : xWy g73 a73 (hindT (FAc (S 1) r (aT Z r).length u us.length) ((aT Z r).length + us.length)) := hc73.1.congr (adW_s (g := g64) (s := S 1) (u := u) hTB huB)
  have e0 : (adW g64 (aT Z r ++ us)).1 = (hindT (FAc (S 1) r (aT Z r).length u us.length) ((aT Z r).length + us.length)).1 := (adW_s (g := g64) (s := S 1) (u := u) hTB huB).1
  obtain ⟨-, ⟨arr', hAL, hLE⟩, F73⟩ := hc73
  rw [if_neg (fun z => hv (e0.symm.trans z))] at hAL
  obtain ⟨Z9, hP9⟩ := hP2.reT hr F73 (fun o h => h) hAL (Nat.le_trans (hP2.rp hr).2.2.1 hLE)
  have FALL : xFr (fun o => o = 5 ∨ oP p o ∨ 1000 * xsz g0 ≤ o) 9000 g0 g73 := (((F0.sub (m := 90) (O' := (fun o => o = 5 ∨ oP p o ∨ 1000 * xsz g0 ≤ o)) (fun o h1 => absurd h1 (fun z => z)) hN0).tr (FC.sub (m := 1404) (fun o h1 => by unfold oP at h1; omega) (Nat.le_refl _))).tr (F73.sub (m := 7000) (fun o h1 => by unfold oP; rcases h1 with z | z <;> omega) (Nat.le_refl _))).sub (fun _ h => h) (by omega)
  have tx9 : xtag g73 x = 1 := (FALL.tag hx0.1).trans hx0.2.1
  refine xw_callY (pc := 76) (xr_V (as := [_]) ok_X1_refuse rfl (by decide) q1302 q1304 qs22 (by first | (rw [tx9]; rfl) | (rw [hM9.tx]; rfl) | (rw [hMc.tx]; rfl) | (rw [hM.tx]; rfl)) (by first | (rw [tx9]; rfl) | (rw [hM9.tx]; rfl) | (rw [hMc.tx]; rfl) | (rw [hM.tx]; rfl)) dX1_takeSheet_76 rfl rfl (Nat.le_of_ble_eq_true rfl)) (SP_X1_refuse_O hw9 hv hx0.2.1 hx0.2.2 FALL (by unfold oP; have := hx0.1; omega) (E := fun g' => ∃ Z', xPol g' p Z' (S 1) n rr ww) (fun g' F9 => ⟨Z9, hP9.fr F9 (fun o h1 h2 => by unfold oP at h1; unfold oEq at h2; omega) (by unfold oEq; omega)⟩)) xRefO_up rfl ?_
  exact fun _ _ h => h
theorem lp_X1_takeSheet {d : Nat} {g : xG} {x sh Q sg m rb : Nat} {s9 : Nat → Int32} {a1 : Int32} (hx : xtag g x = 1) (h6 : xr g x 6 = some sh) (hS : xShQ g sh Q sg s9) (hm : m = cntB (osQ s9) 6) {QQ : Option Value ⊕ Nat → xG → Prop} (hq : ∀ gk, xFr oNo (m + 1) g gk → (xtag gk (xsz g) = 109 ∧ xown gk (xsz g) = 2 ∧ xlen gk (xsz g) = m ∧ ∀ i, i < cntB (osQ s9) 6 → xr gk (xsz g) i = some ((shL g sh s9 6).getD i 0)) → XW M_X1_takeSheet (d + 80) 60 [(5, .int (nI 6)), (4, .int (nI m)), (3, .ref (xsz g)), (2, .ref rb), (0, .ref x), (1, .int a1)] [] gk QQ) : ∀ (j k : Nat) (gk : xG), 6 - k < j → k ≤ 6 → xFr oNo (m + 1) g gk → (xtag gk (xsz g) = 109 ∧ xown gk (xsz g) = 2 ∧ xlen gk (xsz g) = m ∧ ∀ i, i < cntB (osQ s9) k → xr gk (xsz g) i = some ((shL g sh s9 k).getD i 0)) → XW M_X1_takeSheet (d + 80) 23 [(5, .int (nI k)), (4, .int (nI (cntB (osQ s9) k))), (3, .ref (xsz g)), (2, .ref rb), (0, .ref x), (1, .int a1)] [] gk QQ := by
  have hS0 := hS
  obtain ⟨s1, s2, s3, s4, s5, s6⟩ := hS
  have hQ : Q < 14 ∧ 7 ≤ Q := by rw [s4]; split <;> omega
  have hls : sh < xsz g := xlt (by rw [s3]; omega)
  have hlx : x < xsz g := xlt (by rw [hx]; decide)
  intro j
  induction j with
  | zero => intro k gk h; omega
  | succ j ih =>
  intro k gk hj hk FK hI
  have ck := cntB_le (osQ s9) k
  have cm := cntB_mn (P := osQ s9) hk
  have txk : xtag gk x = 1 := (FK.tag hlx).trans hx
  have h6k : xr gk x 6 = some sh := (FK.r' hlx (fun z => z)).trans h6
  have s3k : xtag gk sh = 101 + Q := (FK.tag hls).trans s3
  have s5k : xlen gk sh = 6 := (FK.len hls).trans s5
  by_cases h9 : k < 6
  · have hI0 := hI
    obtain ⟨i1, i2, i3, i4⟩ := hI
    rcases s6 k h9 with ⟨q1, q2⟩ | ⟨b0, q1, q2, q3⟩
    · have hos := osQ_f q1
      refine xw_iload (pc := 23) dX1_takeSheet_23 0 rfl ?_
      refine xw_bipush (v := nI 6) (pc := 25) dX1_takeSheet_25 (by decide +kernel) ?_
      refine xw_icmp_ge (pc := 27) 60 dX1_takeSheet_27 rfl (fun hb27 => ?_) (fun hb27 => ?_)
      · exfalso
        replace hb27 : 6 ≤ k := (nI_leI (a := 6) (b := k) (by omega) (by omega)).mp hb27
        omega
      replace hb27 : ¬ (6 ≤ k) := mt (nI_leI (a := 6) (b := k) (by omega) (by omega)).mpr hb27
      refine xw_aload_n (pc := 30) dX1_takeSheet_30 4 rfl ?_
      refine xw_getS (b := sh) (pc := 31) fd_X1_34 dX1_takeSheet_31 (by first | assumption | (simp [-List.getD_eq_getElem?_getD, xE_setI, xsz_setI, xsl_setI, xtag_setI, xown_setI, xlen_setI, xE_setR, xsz_setR, xsl_setR, xtag_setR, xown_setR, xlen_setR, xE_setW, xsz_setW, xsl_setW, xtag_setW, xown_setW, xlen_setW, xi_setR, xi_setW, xr_setI, xr_setW, xww_setI, xww_setR, xi_setI, xr_setR, xww_setW, xE_new, xsz_new, xsl_new, txk, h6k, s3k, s5k, i1, i2, i3, xsub]; done) | (simp [-List.getD_eq_getElem?_getD, xE_setI, xsz_setI, xsl_setI, xtag_setI, xown_setI, xlen_setI, xE_setR, xsz_setR, xsl_setR, xtag_setR, xown_setR, xlen_setR, xE_setW, xsz_setW, xsl_setW, xtag_setW, xown_setW, xlen_setW, xi_setR, xi_setW, xr_setI, xr_setW, xww_setI, xww_setR, xi_setI, xr_setR, xww_setW, xE_new, xsz_new, xsl_new, txk, h6k, s3k, s5k, i1, i2, i3] <;> rfl)) (by simp [-List.getD_eq_getElem?_getD, xE_setI, xsz_setI, xsl_setI, xtag_setI, xown_setI, xlen_setI, xE_setR, xsz_setR, xsl_setR, xtag_setR, xown_setR, xlen_setR, xE_setW, xsz_setW, xsl_setW, xtag_setW, xown_setW, xlen_setW, xi_setR, xi_setW, xr_setI, xr_setW, xww_setI, xww_setR, xi_setI, xr_setR, xww_setW, xE_new, xsz_new, xsl_new, txk, h6k, s3k, s5k, i1, i2, i3]) ?_
      refine xw_iload (pc := 34) dX1_takeSheet_34 0 rfl ?_
      refine xw_aald (q := Q) (k := k) (pc := 36) dX1_takeSheet_36 (by simp [-List.getD_eq_getElem?_getD, xE_setI, xsz_setI, xsl_setI, xtag_setI, xown_setI, xlen_setI, xE_setR, xsz_setR, xsl_setR, xtag_setR, xown_setR, xlen_setR, xE_setW, xsz_setW, xsl_setW, xtag_setW, xown_setW, xlen_setW, xi_setR, xi_setW, xr_setI, xr_setW, xww_setI, xww_setR, xi_setI, xr_setR, xww_setW, xE_new, xsz_new, xsl_new, txk, h6k, s3k, s5k, i1, i2, i3]) (by first | decide | omega) (by first | decide | omega) rfl (by omega) ?_
      rw [show xr gk sh k = none from (FK.r' hls (fun z => z)).trans q2]
      refine xw_ifnullN (pc := 37) 54 dX1_takeSheet_37 rfl ?_
      refine xw_iinc (v := nI (k + 1)) (l' := [(5, _), (4, _), (3, _), (2, _), (0, _), (1, _)]) (pc := 54) dX1_takeSheet_54 0 rfl (nI_add _ 1) (by decide) rfl ?_
      refine xw_goto (pc := 57) 23 dX1_takeSheet_57 rfl ?_
      refine ih (k + 1) _ (by omega) (by omega) FK ⟨i1, i2, i3, fun i hi => ?_⟩ |> fun h9 => ?_
      rotate_left
      · rw [cntB_f hos] at hi
        rw [show shL g sh s9 (k + 1) = shL g sh s9 k from if_neg (by rw [hos]; decide)]
        exact i4 i hi
      rw [cntB_f hos] at h9
      exact h9
    · have hos := osQ_t q2.2.2.2.1 (by decide)
      have tb0 : 10 ≤ xtag gk b0 ∧ xtag gk b0 ≤ 13 := by rw [FK.tag (xlt (by have := q2.1; omega))]; exact ⟨q2.1, q2.2.1⟩
      have cm1 := cntB_mn (P := osQ s9) (a := k + 1) (b := 6) (by omega)
      rw [cntB_t hos] at cm1
      refine xw_iload (pc := 23) dX1_takeSheet_23 0 rfl ?_
      refine xw_bipush (v := nI 6) (pc := 25) dX1_takeSheet_25 (by decide +kernel) ?_
      refine xw_icmp_ge (pc := 27) 60 dX1_takeSheet_27 rfl (fun hb27 => ?_) (fun hb27 => ?_)
      · exfalso
        replace hb27 : 6 ≤ k := (nI_leI (a := 6) (b := k) (by omega) (by omega)).mp hb27
        omega
      replace hb27 : ¬ (6 ≤ k) := mt (nI_leI (a := 6) (b := k) (by omega) (by omega)).mpr hb27
      refine xw_aload_n (pc := 30) dX1_takeSheet_30 4 rfl ?_
      refine xw_getS (b := sh) (pc := 31) fd_X1_34 dX1_takeSheet_31 (by first | assumption | (simp [-List.getD_eq_getElem?_getD, xE_setI, xsz_setI, xsl_setI, xtag_setI, xown_setI, xlen_setI, xE_setR, xsz_setR, xsl_setR, xtag_setR, xown_setR, xlen_setR, xE_setW, xsz_setW, xsl_setW, xtag_setW, xown_setW, xlen_setW, xi_setR, xi_setW, xr_setI, xr_setW, xww_setI, xww_setR, xi_setI, xr_setR, xww_setW, xE_new, xsz_new, xsl_new, txk, h6k, s3k, s5k, i1, i2, i3, xsub]; done) | (simp [-List.getD_eq_getElem?_getD, xE_setI, xsz_setI, xsl_setI, xtag_setI, xown_setI, xlen_setI, xE_setR, xsz_setR, xsl_setR, xtag_setR, xown_setR, xlen_setR, xE_setW, xsz_setW, xsl_setW, xtag_setW, xown_setW, xlen_setW, xi_setR, xi_setW, xr_setI, xr_setW, xww_setI, xww_setR, xi_setI, xr_setR, xww_setW, xE_new, xsz_new, xsl_new, txk, h6k, s3k, s5k, i1, i2, i3] <;> rfl)) (by simp [-List.getD_eq_getElem?_getD, xE_setI, xsz_setI, xsl_setI, xtag_setI, xown_setI, xlen_setI, xE_setR, xsz_setR, xsl_setR, xtag_setR, xown_setR, xlen_setR, xE_setW, xsz_setW, xsl_setW, xtag_setW, xown_setW, xlen_setW, xi_setR, xi_setW, xr_setI, xr_setW, xww_setI, xww_setR, xi_setI, xr_setR, xww_setW, xE_new, xsz_new, xsl_new, txk, h6k, s3k, s5k, i1, i2, i3]) ?_
      refine xw_iload (pc := 34) dX1_takeSheet_34 0 rfl ?_
      refine xw_aald (q := Q) (k := k) (pc := 36) dX1_takeSheet_36 (by simp [-List.getD_eq_getElem?_getD, xE_setI, xsz_setI, xsl_setI, xtag_setI, xown_setI, xlen_setI, xE_setR, xsz_setR, xsl_setR, xtag_setR, xown_setR, xlen_setR, xE_setW, xsz_setW, xsl_setW, xtag_setW, xown_setW, xlen_setW, xi_setR, xi_setW, xr_setI, xr_setW, xww_setI, xww_setR, xi_setI, xr_setR, xww_setW, xE_new, xsz_new, xsl_new, txk, h6k, s3k, s5k, i1, i2, i3]) (by first | decide | omega) (by first | decide | omega) rfl (by omega) ?_
      rw [show xr gk sh k = some b0 from by exact (FK.r' hls (fun z => z)).trans q1]
      refine xw_ifnull (pc := 37) dX1_takeSheet_37 ?_
      refine xw_aload_n (pc := 40) dX1_takeSheet_40 2 rfl ?_
      refine xw_iload (pc := 41) dX1_takeSheet_41 1 rfl ?_
      refine xw_aload_n (pc := 43) dX1_takeSheet_43 4 rfl ?_
      refine xw_getS (b := sh) (pc := 44) fd_X1_34 dX1_takeSheet_44 (by first | assumption | (simp [-List.getD_eq_getElem?_getD, xE_setI, xsz_setI, xsl_setI, xtag_setI, xown_setI, xlen_setI, xE_setR, xsz_setR, xsl_setR, xtag_setR, xown_setR, xlen_setR, xE_setW, xsz_setW, xsl_setW, xtag_setW, xown_setW, xlen_setW, xi_setR, xi_setW, xr_setI, xr_setW, xww_setI, xww_setR, xi_setI, xr_setR, xww_setW, xE_new, xsz_new, xsl_new, txk, h6k, s3k, s5k, i1, i2, i3, xsub]; done) | (simp [-List.getD_eq_getElem?_getD, xE_setI, xsz_setI, xsl_setI, xtag_setI, xown_setI, xlen_setI, xE_setR, xsz_setR, xsl_setR, xtag_setR, xown_setR, xlen_setR, xE_setW, xsz_setW, xsl_setW, xtag_setW, xown_setW, xlen_setW, xi_setR, xi_setW, xr_setI, xr_setW, xww_setI, xww_setR, xi_setI, xr_setR, xww_setW, xE_new, xsz_new, xsl_new, txk, h6k, s3k, s5k, i1, i2, i3] <;> rfl)) (by simp [-List.getD_eq_getElem?_getD, xE_setI, xsz_setI, xsl_setI, xtag_setI, xown_setI, xlen_setI, xE_setR, xsz_setR, xsl_setR, xtag_setR, xown_setR, xlen_setR, xE_setW, xsz_setW, xsl_setW, xtag_setW, xown_setW, xlen_setW, xi_setR, xi_setW, xr_setI, xr_setW, xww_setI, xww_setR, xi_setI, xr_setR, xww_setW, xE_new, xsz_new, xsl_new, txk, h6k, s3k, s5k, i1, i2, i3]) ?_
      refine xw_iload (pc := 47) dX1_takeSheet_47 0 rfl ?_
      refine xw_aald (q := Q) (k := k) (pc := 49) dX1_takeSheet_49 (by simp [-List.getD_eq_getElem?_getD, xE_setI, xsz_setI, xsl_setI, xtag_setI, xown_setI, xlen_setI, xE_setR, xsz_setR, xsl_setR, xtag_setR, xown_setR, xlen_setR, xE_setW, xsz_setW, xsl_setW, xtag_setW, xown_setW, xlen_setW, xi_setR, xi_setW, xr_setI, xr_setW, xww_setI, xww_setR, xi_setI, xr_setR, xww_setW, xE_new, xsz_new, xsl_new, txk, h6k, s3k, s5k, i1, i2, i3]) (by first | decide | omega) (by first | decide | omega) rfl (by omega) ?_
      rw [show xr gk sh k = some b0 from by exact (FK.r' hls (fun z => z)).trans q1]
      refine xw_aast (q := 8) (k := (cntB (osQ s9) k)) (pc := 50) dX1_takeSheet_50 (by simp [-List.getD_eq_getElem?_getD, xE_setI, xsz_setI, xsl_setI, xtag_setI, xown_setI, xlen_setI, xE_setR, xsz_setR, xsl_setR, xtag_setR, xown_setR, xlen_setR, xE_setW, xsz_setW, xsl_setW, xtag_setW, xown_setW, xlen_setW, xi_setR, xi_setW, xr_setI, xr_setW, xww_setI, xww_setR, xi_setI, xr_setR, xww_setW, xE_new, xsz_new, xsl_new, txk, h6k, s3k, s5k, i1, i2, i3]) (by decide) (by decide) rfl (by first | assumption | (simp [-List.getD_eq_getElem?_getD, xE_setI, xsz_setI, xsl_setI, xtag_setI, xown_setI, xlen_setI, xE_setR, xsz_setR, xsl_setR, xtag_setR, xown_setR, xlen_setR, xE_setW, xsz_setW, xsl_setW, xtag_setW, xown_setW, xlen_setW, xi_setR, xi_setW, xr_setI, xr_setW, xww_setI, xww_setR, xi_setI, xr_setR, xww_setW, xE_new, xsz_new, xsl_new, txk, h6k, s3k, s5k, i1, i2, i3]; done) | (simp [-List.getD_eq_getElem?_getD, xE_setI, xsz_setI, xsl_setI, xtag_setI, xown_setI, xlen_setI, xE_setR, xsz_setR, xsl_setR, xtag_setR, xown_setR, xlen_setR, xE_setW, xsz_setW, xsl_setW, xtag_setW, xown_setW, xlen_setW, xi_setR, xi_setW, xr_setI, xr_setW, xww_setI, xww_setR, xi_setI, xr_setR, xww_setW, xE_new, xsz_new, xsl_new, txk, h6k, s3k, s5k, i1, i2, i3]; assumption)) rfl (by rw [i3]; omega) (by exact (x_castT tb0.1 tb0.2).1) (by exact (x_castT tb0.1 tb0.2).2) ?_
      refine xw_iinc (v := nI ((cntB (osQ s9) k) + 1)) (l' := [(4, _), (5, _), (3, _), (2, _), (0, _), (1, _)]) (pc := 51) dX1_takeSheet_51 1 rfl (nI_add _ 1) (by decide) rfl ?_
      refine xw_iinc (v := nI (k + 1)) (l' := [(5, _), (4, _), (3, _), (2, _), (0, _), (1, _)]) (pc := 54) dX1_takeSheet_54 1 rfl (nI_add _ 1) (by decide) rfl ?_
      refine xw_goto (pc := 57) 23 dX1_takeSheet_57 rfl ?_
      rw [show cntB (osQ s9) k + 1 = cntB (osQ s9) (k + 1) from (cntB_t hos).symm]
      refine ih (k + 1) _ (by omega) (by omega) (FK.sr (Or.inl (Nat.le_refl _))) ⟨by rw [xtag_setR]; exact i1, by rw [xown_setR]; exact i2, by rw [xlen_setR]; exact i3, fun i hi => ?_⟩
      rw [cntB_t hos] at hi
      rw [show shL g sh s9 (k + 1) = shL g sh s9 k ++ [(xr g sh k).getD 0] from if_pos hos]
      by_cases e : i = cntB (osQ s9) k
      · subst e
        rw [xr_setRS (by rw [i1]; decide), show (shL g sh s9 k ++ [(xr g sh k).getD 0]).getD (cntB (osQ s9) k) 0 = (xr g sh k).getD 0 from by rw [← shL_len (g := g) (sh := sh)]; exact getD_app2, q1]
        rfl
      · rw [xr_setRK e, getD_app3 (by rw [shL_len]; omega)]
        exact i4 i (by omega)
  · have ek : k = 6 := by omega
    subst ek
    subst hm
    refine xw_iload (pc := 23) dX1_takeSheet_23 0 rfl ?_
    refine xw_bipush (v := nI 6) (pc := 25) dX1_takeSheet_25 (by decide +kernel) ?_
    refine xw_icmp_ge (pc := 27) 60 dX1_takeSheet_27 rfl (fun _ => ?_) (fun hb => absurd hb (by decide))
    exact hq gk FK hI
theorem SP_X1_takeSheet_F {d : Nat} {g : xG} {x p lk fa ka la n rr ww : Nat} {Z : xAd} {S : xMS} (hM : xMn g x p lk fa ka la Z S n rr ww) {v : Int32} (hv : ¬ inR v (nI 0) (nI rr - nI 1) = true) : XM M_X1_takeSheet (d + 80) [.ref x, .int v] g (xThr (xsz g) (xExc g 23)) := by
  have hlr := hM.P.lr
  have r16 := hM.P.wf.r16
  refine xm_of (by decide +kernel) (Nat.le_of_ble_eq_true rfl) ?_
  show XW _ _ 0 [(0, _), (1, _)] [] _ _
  refine xw_aload_n (pc := 0) dX1_takeSheet_0 0 rfl ?_
  refine xw_getS (b := p) (pc := 1) fd_X1_10 dX1_takeSheet_1 (by first | assumption | (simp [-List.getD_eq_getElem?_getD, xE_setI, xsz_setI, xsl_setI, xtag_setI, xown_setI, xlen_setI, xE_setR, xsz_setR, xsl_setR, xtag_setR, xown_setR, xlen_setR, xE_setW, xsz_setW, xsl_setW, xtag_setW, xown_setW, xlen_setW, xi_setR, xi_setW, xr_setI, xr_setW, xww_setI, xww_setR, xi_setI, xr_setR, xww_setW, xE_new, xsz_new, xsl_new, hM.tx, hM.xp, hM.l3, xsub]; done) | (simp [-List.getD_eq_getElem?_getD, xE_setI, xsz_setI, xsl_setI, xtag_setI, xown_setI, xlen_setI, xE_setR, xsz_setR, xsl_setR, xtag_setR, xown_setR, xlen_setR, xE_setW, xsz_setW, xsl_setW, xtag_setW, xown_setW, xlen_setW, xi_setR, xi_setW, xr_setI, xr_setW, xww_setI, xww_setR, xi_setI, xr_setR, xww_setW, xE_new, xsz_new, xsl_new, hM.tx, hM.xp, hM.l3] <;> rfl)) (by simp [-List.getD_eq_getElem?_getD, xE_setI, xsz_setI, xsl_setI, xtag_setI, xown_setI, xlen_setI, xE_setR, xsz_setR, xsl_setR, xtag_setR, xown_setR, xlen_setR, xE_setW, xsz_setW, xsl_setW, xtag_setW, xown_setW, xlen_setW, xi_setR, xi_setW, xr_setI, xr_setW, xww_setI, xww_setR, xi_setI, xr_setR, xww_setW, xE_new, xsz_new, xsl_new, hM.tx, hM.xp, hM.l3]) ?_
  refine xw_iload_n (pc := 4) dX1_takeSheet_4 1 rfl ?_
  refine xw_callX (pc := 5) (xr_V (as := [_]) ok_X2_rule rfl (by decide) q1338 q1339 q1340 (by rw [hM.P.tag]; rfl) (by rw [hM.P.tag]; rfl) dX1_takeSheet_5 rfl rfl (Nat.le_of_ble_eq_true rfl)) (SP_X2_rule_F hM.P.pl v (by rw [hlr]; exact hv)) ?_
  exact xx_out0 rfl (by rw [xExc_tag]; decide) (by rw [xExc_tag]; decide) (by rw [xExc_own]; decide) ⟨rfl, rfl⟩

theorem SP_X1_takeSheet {d : Nat} {g : xG} {x p lk fa ka la n rr ww : Nat} {Z : xAd} {S : xMS} (hM : xMn g x p lk fa ka la Z S n rr ww) {dq da h : Nat} {ps : List Nat} (hPa : xr g x 2 = some dq ∧ xAD g 7 dq da h ps ∧ True ∧ ps.length ≤ 8) {sh Q sg : Nat} {s9 u : Nat → Int32} (h6 : xr g x 6 = some sh) (hS : xShQ g sh Q sg s9) {r : Nat} (hr : r < rr) (hu : ∀ k, k < 6 → osQ s9 k = true → ∀ c, c < 3 → u (3 * cntB (osQ s9) k + c) = s9 (3 * k + c)) (hv : (hindT (FAc (S 1) r (aT Z r).length u (cntB (osQ s9) 6)) ((aT Z r).length + cntB (osQ s9) 6)).1 = 0) : XM M_X1_takeSheet (d + 80) [.ref x, .int (nI r)] g (xVal (.int (nI ((aT Z r).length + cntB (osQ s9) 6))) (xChd g p dq da (S 1) ps (tsUp (S 1) r (aT Z r).length u (cntB (osQ s9) 6)) n rr ww)) := by
  have hlr := hM.P.lr
  have r16 := hM.P.wf.r16
  have hlx : x < xsz g := xlt (by rw [hM.tx]; decide)
  have c6 := cntB_le (osQ s9) 6
  refine xm_of (by decide +kernel) (Nat.le_of_ble_eq_true rfl) ?_
  show XW _ _ 0 [(0, _), (1, _)] [] _ _
  refine xw_aload_n (pc := 0) dX1_takeSheet_0 0 rfl ?_
  refine xw_getS (b := p) (pc := 1) fd_X1_10 dX1_takeSheet_1 (by first | assumption | (simp [-List.getD_eq_getElem?_getD, xE_setI, xsz_setI, xsl_setI, xtag_setI, xown_setI, xlen_setI, xE_setR, xsz_setR, xsl_setR, xtag_setR, xown_setR, xlen_setR, xE_setW, xsz_setW, xsl_setW, xtag_setW, xown_setW, xlen_setW, xi_setR, xi_setW, xr_setI, xr_setW, xww_setI, xww_setR, xi_setI, xr_setR, xww_setW, xE_new, xsz_new, xsl_new, hM.tx, hM.xp, hM.l3, xsub]; done) | (simp [-List.getD_eq_getElem?_getD, xE_setI, xsz_setI, xsl_setI, xtag_setI, xown_setI, xlen_setI, xE_setR, xsz_setR, xsl_setR, xtag_setR, xown_setR, xlen_setR, xE_setW, xsz_setW, xsl_setW, xtag_setW, xown_setW, xlen_setW, xi_setR, xi_setW, xr_setI, xr_setW, xww_setI, xww_setR, xi_setI, xr_setR, xww_setW, xE_new, xsz_new, xsl_new, hM.tx, hM.xp, hM.l3] <;> rfl)) (by simp [-List.getD_eq_getElem?_getD, xE_setI, xsz_setI, xsl_setI, xtag_setI, xown_setI, xlen_setI, xE_setR, xsz_setR, xsl_setR, xtag_setR, xown_setR, xlen_setR, xE_setW, xsz_setW, xsl_setW, xtag_setW, xown_setW, xlen_setW, xi_setR, xi_setW, xr_setI, xr_setW, xww_setI, xww_setR, xi_setI, xr_setR, xww_setW, xE_new, xsz_new, xsl_new, hM.tx, hM.xp, hM.l3]) ?_
  refine xw_iload_n (pc := 4) dX1_takeSheet_4 1 rfl ?_
  refine xw_callV (pc := 5) (xr_V (as := [_]) ok_X2_rule rfl (by decide) q1338 q1339 q1340 (by rw [hM.P.tag]; rfl) (by rw [hM.P.tag]; rfl) dX1_takeSheet_5 rfl rfl (Nat.le_of_ble_eq_true rfl)) (SP_X2_rule hM.P.pl r (by omega) (hM.P.ru hr).1) ?_
  refine xw_astore_n (l' := [(2, _), (0, _), (1, _)]) (pc := 8) dX1_takeSheet_8 rfl (by decide) rfl ?_
  refine xw_aload_n (pc := 9) dX1_takeSheet_9 1 rfl ?_
  refine xw_callV (pc := 10) (xr_V (as := []) ok_X1_onSheet rfl (by decide) q1703 q1705 qs29 (by rw [hM.tx]; rfl) (by rw [hM.tx]; rfl) dX1_takeSheet_10 rfl rfl (Nat.le_of_ble_eq_true rfl)) (SP_X1_onSheet hM.tx h6 hS) ?_
  refine xw_anew (q := 8) (n := (cntB (osQ s9) 6)) (pc := 13) 2 dX1_takeSheet_13 (by decide) (by decide) rfl q656 (by decide) (by first | decide | assumption | omega) rfl (by omega) ?_
  refine xw_at (a := (xsz g)) (by rfl) ?_
  refine xw_astore_n (l' := [(3, _), (2, _), (0, _), (1, _)]) (pc := 16) dX1_takeSheet_16 rfl (by decide) rfl ?_
  refine xw_iconst (v := nI 0) (pc := 17) dX1_takeSheet_17 rfl ?_
  refine xw_istore (l' := [(4, _), (3, _), (2, _), (0, _), (1, _)]) (pc := 18) dX1_takeSheet_18 (by decide) rfl ?_
  refine xw_iconst (v := nI 0) (pc := 20) dX1_takeSheet_20 rfl ?_
  refine xw_istore (l' := [(5, _), (4, _), (3, _), (2, _), (0, _), (1, _)]) (pc := 21) dX1_takeSheet_21 (by decide) rfl ?_
  refine lp_X1_takeSheet hM.tx h6 hS rfl (fun gk FK hI => ?_) 7 0 _ (by omega) (by omega) ((xFr.rf (n := 0)).nw.sub (fun _ h => h) (by omega)) ⟨by rw [xtag_newS rfl]; rfl, by rw [xown_newS rfl]; rfl, by rw [xlen_newS rfl]; rfl, fun i hi => absurd hi (Nat.not_lt_zero i)⟩
  have hP' := hM.P.fr FK (fun o _ h => h) (fun h => h)
  have hM' := hM.fr (S' := S) FK (by unfold oKeep oNo; simp) hP'
  have eL : (shL g sh s9 6).length = cntB (osQ s9) 6 := shL_len
  have T := tl_X1_takeSheet (d := d) (us := shL g sh s9 6) (u := u) (ua := xsz g) hM' ⟨(FK.r' hlx (fun z => z)).trans hPa.1, hPa.2.1.fr FK (fun z => z), trivial, hPa.2.2.2⟩ hr (fun k hk => (shL_te hS hu (Nat.le_refl 6) k (by rw [← eL]; exact hk)).fr FK (fun z => z)) (by rw [eL]; exact hI) (by rw [eL]; exact c6) FK (by omega) ⟨hlx, hM.tx, hM.ox⟩ (by rw [eL]; exact hv)
  rw [eL] at T
  exact T

theorem SP_X1_takeSheet_R {d : Nat} {g : xG} {x p lk fa ka la n rr ww : Nat} {Z : xAd} {S : xMS} (hM : xMn g x p lk fa ka la Z S n rr ww) {sh Q sg : Nat} {s9 u : Nat → Int32} (h6 : xr g x 6 = some sh) (hS : xShQ g sh Q sg s9) {r : Nat} (hr : r < rr) (hu : ∀ k, k < 6 → osQ s9 k = true → ∀ c, c < 3 → u (3 * cntB (osQ s9) k + c) = s9 (3 * k + c)) (hv : (hindT (FAc (S 1) r (aT Z r).length u (cntB (osQ s9) 6)) ((aT Z r).length + cntB (osQ s9) 6)).1 ≠ 0) : XM M_X1_takeSheet (d + 80) [.ref x, .int (nI r)] g (xRefO g x (fun o => o = 5 ∨ oP p o ∨ 1000 * xsz g ≤ o) 9010 (hindT (FAc (S 1) r (aT Z r).length u (cntB (osQ s9) 6)) ((aT Z r).length + cntB (osQ s9) 6)) (fun g' => ∃ Z', xPol g' p Z' (S 1) n rr ww)) := by
  have hlr := hM.P.lr
  have r16 := hM.P.wf.r16
  have hlx : x < xsz g := xlt (by rw [hM.tx]; decide)
  have c6 := cntB_le (osQ s9) 6
  refine xm_of (by decide +kernel) (Nat.le_of_ble_eq_true rfl) ?_
  show XW _ _ 0 [(0, _), (1, _)] [] _ _
  refine xw_aload_n (pc := 0) dX1_takeSheet_0 0 rfl ?_
  refine xw_getS (b := p) (pc := 1) fd_X1_10 dX1_takeSheet_1 (by first | assumption | (simp [-List.getD_eq_getElem?_getD, xE_setI, xsz_setI, xsl_setI, xtag_setI, xown_setI, xlen_setI, xE_setR, xsz_setR, xsl_setR, xtag_setR, xown_setR, xlen_setR, xE_setW, xsz_setW, xsl_setW, xtag_setW, xown_setW, xlen_setW, xi_setR, xi_setW, xr_setI, xr_setW, xww_setI, xww_setR, xi_setI, xr_setR, xww_setW, xE_new, xsz_new, xsl_new, hM.tx, hM.xp, hM.l3, xsub]; done) | (simp [-List.getD_eq_getElem?_getD, xE_setI, xsz_setI, xsl_setI, xtag_setI, xown_setI, xlen_setI, xE_setR, xsz_setR, xsl_setR, xtag_setR, xown_setR, xlen_setR, xE_setW, xsz_setW, xsl_setW, xtag_setW, xown_setW, xlen_setW, xi_setR, xi_setW, xr_setI, xr_setW, xww_setI, xww_setR, xi_setI, xr_setR, xww_setW, xE_new, xsz_new, xsl_new, hM.tx, hM.xp, hM.l3] <;> rfl)) (by simp [-List.getD_eq_getElem?_getD, xE_setI, xsz_setI, xsl_setI, xtag_setI, xown_setI, xlen_setI, xE_setR, xsz_setR, xsl_setR, xtag_setR, xown_setR, xlen_setR, xE_setW, xsz_setW, xsl_setW, xtag_setW, xown_setW, xlen_setW, xi_setR, xi_setW, xr_setI, xr_setW, xww_setI, xww_setR, xi_setI, xr_setR, xww_setW, xE_new, xsz_new, xsl_new, hM.tx, hM.xp, hM.l3]) ?_
  refine xw_iload_n (pc := 4) dX1_takeSheet_4 1 rfl ?_
  refine xw_callV (pc := 5) (xr_V (as := [_]) ok_X2_rule rfl (by decide) q1338 q1339 q1340 (by rw [hM.P.tag]; rfl) (by rw [hM.P.tag]; rfl) dX1_takeSheet_5 rfl rfl (Nat.le_of_ble_eq_true rfl)) (SP_X2_rule hM.P.pl r (by omega) (hM.P.ru hr).1) ?_
  refine xw_astore_n (l' := [(2, _), (0, _), (1, _)]) (pc := 8) dX1_takeSheet_8 rfl (by decide) rfl ?_
  refine xw_aload_n (pc := 9) dX1_takeSheet_9 1 rfl ?_
  refine xw_callV (pc := 10) (xr_V (as := []) ok_X1_onSheet rfl (by decide) q1703 q1705 qs29 (by rw [hM.tx]; rfl) (by rw [hM.tx]; rfl) dX1_takeSheet_10 rfl rfl (Nat.le_of_ble_eq_true rfl)) (SP_X1_onSheet hM.tx h6 hS) ?_
  refine xw_anew (q := 8) (n := (cntB (osQ s9) 6)) (pc := 13) 2 dX1_takeSheet_13 (by decide) (by decide) rfl q656 (by decide) (by first | decide | assumption | omega) rfl (by omega) ?_
  refine xw_at (a := (xsz g)) (by rfl) ?_
  refine xw_astore_n (l' := [(3, _), (2, _), (0, _), (1, _)]) (pc := 16) dX1_takeSheet_16 rfl (by decide) rfl ?_
  refine xw_iconst (v := nI 0) (pc := 17) dX1_takeSheet_17 rfl ?_
  refine xw_istore (l' := [(4, _), (3, _), (2, _), (0, _), (1, _)]) (pc := 18) dX1_takeSheet_18 (by decide) rfl ?_
  refine xw_iconst (v := nI 0) (pc := 20) dX1_takeSheet_20 rfl ?_
  refine xw_istore (l' := [(5, _), (4, _), (3, _), (2, _), (0, _), (1, _)]) (pc := 21) dX1_takeSheet_21 (by decide) rfl ?_
  refine lp_X1_takeSheet hM.tx h6 hS rfl (fun gk FK hI => ?_) 7 0 _ (by omega) (by omega) ((xFr.rf (n := 0)).nw.sub (fun _ h => h) (by omega)) ⟨by rw [xtag_newS rfl]; rfl, by rw [xown_newS rfl]; rfl, by rw [xlen_newS rfl]; rfl, fun i hi => absurd hi (Nat.not_lt_zero i)⟩
  have hP' := hM.P.fr FK (fun o _ h => h) (fun h => h)
  have hM' := hM.fr (S' := S) FK (by unfold oKeep oNo; simp) hP'
  have eL : (shL g sh s9 6).length = cntB (osQ s9) 6 := shL_len
  have T := tl_X1_takeSheet_R (d := d) (us := shL g sh s9 6) (u := u) (ua := xsz g) hM' hr (fun k hk => (shL_te hS hu (Nat.le_refl 6) k (by rw [← eL]; exact hk)).fr FK (fun z => z)) (by rw [eL]; exact hI) (by rw [eL]; exact c6) FK (by omega) ⟨hlx, hM.tx, hM.ox⟩ (by rw [eL]; exact hv)
  rw [eL] at T
  exact T

