/-! MODEL 23: the reference says -/
set_option maxRecDepth 100000
theorem isCh_n {k : Nat} (h : k < 65536) : isCh (nI k) := ⟨nI_chr h, by have h2 := pk_fc (nI k); rw [nI_i2c h] at h2; exact h2⟩
/-- the reference's block is owned by 3 -/
def xM3 (g : xG) (m : Nat) : Prop := ∀ p, p < 14 → m + p < xsz g ∧ xown g (m + p) = 3
theorem xM3.fr {g g' : xG} {m N : Nat} {O : Nat → Prop} (h : xM3 g m) (F : xFr O N g g') : xM3 g' m := fun p hp => ⟨F.lt (h p hp).1, (F.own (h p hp).1).trans (h p hp).2⟩
theorem with_F {g : xG} {m : Nat} {S : xMS} (h : xM3 g m) : xFr (oEq 3) 0 g (xWith g m S) := by
  refine ⟨rfl, Nat.le_refl _, Nat.le_refl _, Nat.le_refl _, fun a ha => ⟨xtag_with, xown_with, xlen_with, fun ho => ?_⟩⟩
  exact xc_withN (fun hb => ho (by
    have h9 := (h (a - m) (by omega)).2
    rw [show m + (a - m) = a from by omega] at h9
    exact h9))
theorem xcI_xcI {c : xCell} {f k : Nat → Int32} : xcI (xcI c f) k = xcI c k := rfl
theorem with_fr {g h : xG} {m N : Nat} {S : xMS} {O : Nat → Prop} (hM : xMod g m) (h3 : xM3 g m) (F : xFr O N (xWith g m S) h) (hO : ¬ O 3) : xEqv (xWith h m S) h ∧ xMod h m ∧ xM3 h m := by
  have hc : ∀ p, p < 14 → xc h (m + p) = xcI (xc g (m + p)) (S p) := fun p hp => by
    have h1 := h3 p hp
    exact (F.c (show m + p < xsz (xWith g m S) from h1.1) (by rw [xown_with, h1.2]; exact hO)).trans (xc_with hp h1.1)
  have hM3 : xM3 h m := fun p hp => by
    have h1 := h3 p hp
    have h2 : m + p < xsz (xWith g m S) := h1.1
    exact ⟨F.lt h2, (F.own h2).trans (xown_with.trans h1.2)⟩
  refine ⟨?_, ?_, hM3⟩
  · refine ⟨rfl, rfl, rfl, fun a => ?_⟩
    by_cases hb : m ≤ a ∧ a < m + 14
    · have h1 := hc (a - m) (by omega)
      have h2 := xc_with (g := h) (S := S) (m := m) (p := a - m) (by omega) (hM3 (a - m) (by omega)).1
      rw [show m + (a - m) = a from by omega] at h1 h2
      rw [h2, h1]
      rfl
    · exact xc_withN hb
  · have t : ∀ p, p < 14 → xtag h (m + p) = xtag g (m + p) := fun p hp => by
      have h9 := congrArg (fun z : xCell => z.1) (hc p hp)
      exact h9
    have o : ∀ p, p < 14 → xown h (m + p) = xown g (m + p) := fun p hp => by
      have h9 := congrArg (fun z : xCell => z.2.1) (hc p hp)
      exact h9
    have l : ∀ p, p < 14 → xlen h (m + p) = xlen g (m + p) := fun p hp => by
      have h9 := congrArg (fun z : xCell => z.2.2.1) (hc p hp)
      exact h9
    have r : ∀ j, xr h m j = xr g m j := fun j => by
      have h9 := congrArg (fun z : xCell => z.2.2.2.2.1 j) (hc 0 (by decide))
      exact h9
    refine ⟨(t 0 (by decide)).trans hM.1, by rw [show xown h m = xown g m from o 0 (by decide)]; exact hM.2.1, fun p q hq => ?_⟩
    have hp : p < 14 := by
      apply Decidable.byContradiction
      intro hp
      have : xmA p = none := by
        obtain ⟨z, rfl⟩ : ∃ z, p = z + 14 := ⟨p - 14, by omega⟩
        first | rfl | simp [xmA]
      rw [this] at hq
      cases hq
    obtain ⟨b1, b2, b3, b4⟩ := hM.2.2 p q hq
    exact ⟨(r q.1).trans b1, (t p hp).trans b2, by rw [o p hp]; exact b3, (l p hp).trans b4⟩
theorem xEqv.symm {g h : xG} (e : xEqv g h) : xEqv h g := ⟨e.1.symm, e.2.1.symm, e.2.2.1.symm, fun b => (e.2.2.2 b).symm⟩
theorem xStr.with {g : xG} {m : Nat} {S : xMS} (hM : xMod g m) {s sv k : Nat} {cs : Nat → Nat} (h : xStr g s sv k cs) : xStr (xWith g m S) s sv k cs := by
  obtain ⟨a1, a2, a3, a4, a5, a6⟩ := h
  have e1 : xc (xWith g m S) s = xc g s := xc_withN (xblk hM (Or.inl a1))
  have e2 : xc (xWith g m S) sv = xc g sv := xc_withN (xblk hM (Or.inr a4))
  exact ⟨(congrArg (fun z : xCell => z.1) e1).trans a1, (congrArg (fun z : xCell => z.2.2.2.2.1 0) e1).trans a2, (xi_of e1 1).trans a3, (congrArg (fun z : xCell => z.1) e2).trans a4, (congrArg (fun z : xCell => z.2.2.1) e2).trans a5, fun j hj => ⟨(a6 j hj).1, (xi_of e2 j).trans (a6 j hj).2⟩⟩
/-- the reference that has said t -/
def exS (S : xMS) (t : List Nat) : xMS := fun p i => if p = 0 ∧ i = 33 then nI t.length else if p = 13 ∧ i < t.length then nI (t.getD i 0) else S p i
theorem exS_33 {S : xMS} {t : List Nat} : exS S t 0 33 = nI t.length := by simp [exS]
theorem exS_q {S : xMS} {t : List Nat} {q : Nat} (h0 : q ≠ 0) (h13 : q ≠ 13) : exS S t q = S q := by
  funext i
  simp [exS, h0, h13]
theorem exS_0 {S : xMS} {t : List Nat} {i : Nat} (h : i ≠ 33) : exS S t 0 i = S 0 i := by simp [exS, h]
theorem exS_13 {S : xMS} {t : List Nat} {i : Nat} (h : i < t.length) : exS S t 13 i = nI (t.getD i 0) := by simp [exS, h]
theorem exS_nil {S : xMS} : mset S 0 33 (nI 0) = exS S [] := by
  funext p i
  unfold mset exS
  by_cases h : p = 0 ∧ i = 33
  · rw [if_pos h, if_pos h]; rfl
  · rw [if_neg h, if_neg h, if_neg (fun h9 => Nat.not_lt_zero i h9.2)]
theorem exS_push {S : xMS} {t : List Nat} {c : Nat} : mset (mset (exS S t) 13 t.length (nI c)) 0 33 (nI (t.length + 1)) = exS S (t ++ [c]) := by
  funext p i
  unfold mset exS
  by_cases h : p = 0 ∧ i = 33
  · rw [if_pos h, if_pos h, List.length_append]; rfl
  · rw [if_neg h, if_neg h, if_neg h]
    by_cases h2 : p = 13 ∧ i = t.length
    · obtain ⟨rfl, rfl⟩ := h2
      rw [if_pos ⟨rfl, rfl⟩, if_pos ⟨rfl, by rw [List.length_append]; exact Nat.lt_succ_self _⟩, List.getD_eq_getElem?_getD, List.getElem?_append_right (Nat.le_refl _), Nat.sub_self]
      rfl
    · rw [if_neg h2]
      by_cases h3 : p = 13 ∧ i < t.length
      · rw [if_pos h3, if_pos ⟨h3.1, by rw [List.length_append]; omega⟩, List.getD_eq_getElem?_getD, List.getD_eq_getElem?_getD, List.getElem?_append_left h3.2]
      · rw [if_neg h3, if_neg (fun h9 => by
          have h10 := h9.2
          rw [List.length_append] at h10
          have h11 : i < t.length + 1 := h10
          rcases Nat.lt_succ_iff_lt_or_eq.mp h11 with h12 | h12
          · exact h3 ⟨h9.1, h12⟩
          · exact h2 ⟨h9.1, h12⟩)]

theorem lp_X6_says {d : Nat} {g : xG} {m : Nat} {S : xMS} (hM : xMod g m) {t u : List Nat} {a sv : Nat} (hT : xStr g a sv u.length (gD u)) (hl : t.length + u.length ≤ 200) : ∀ (z w : List Nat), u = w ++ z → XW M_X6_says (d + 4) 2 [(2, .int (nI w.length)), (0, .ref m), (1, .ref a)] [] (xWith g m (exS S (t ++ w))) (xOne none (xWith g m (exS S (t ++ u)))) := by
  have hT0 : ∀ {S : xMS}, xStr (xWith g m S) a sv u.length (gD u) := hT.with hM
  intro z
  induction z with
  | nil =>
    intro w hu
    have hw : w.length = u.length := by rw [hu, List.append_nil]
    refine xw_iload_n (pc := 2) dX6_says_2 0 rfl ?_
    refine xw_aload_n (pc := 3) dX6_says_3 2 rfl ?_
    refine xw_callV (pc := 4) (xr_V (as := []) ok_J9_length rfl (by decide) q2722 q332 q333 (by rw [hT0.1]; rfl) (by rw [hT0.1]; rfl) dX6_says_4 rfl rfl (Nat.le_of_ble_eq_true rfl)) (SP_J9_length hT0 (by omega)) ?_
    refine xw_icmp_ge (pc := 7) 40 dX6_says_7 rfl (fun hb7 => ?_) (fun hb7 => ?_)
    rotate_left
    · exfalso
      replace hb7 : ¬ (u.length ≤ w.length) := mt (nI_leI (a := u.length) (b := w.length) (by omega) (by omega)).mpr hb7
      omega
    replace hb7 : u.length ≤ w.length := (nI_leI (a := u.length) (b := w.length) (by omega) (by omega)).mp hb7
    refine xw_vret (pc := 40) dX6_says_40 rfl ?_
    rw [show w = u from by rw [hu, List.append_nil]]
    exact ⟨rfl, rfl⟩
  | cons c z ih =>
    intro w hu
    have hw : w.length < u.length := by rw [hu, List.length_append]; exact Nat.lt_add_of_pos_right (Nat.succ_pos _)
    have hc : gD u w.length = c := by
      unfold gD
      rw [hu, List.getD_eq_getElem?_getD, List.getElem?_append_right (Nat.le_refl _), Nat.sub_self]
      rfl
    have hc6 : c < 65536 := by
      have h9 := (hT.2.2.2.2.2 w.length hw).1
      rw [hc] at h9
      omega
    have hcA : XM M_J9_charAt (d + 3) [.ref a, .int (nI w.length)] (xWith g m (exS S (t ++ w))) (xOne (some (.int (nI c))) (xWith g m (exS S (t ++ w)))) := hc ▸ SP_J9_charAt (d := d) hT0 (by omega) hw
    refine xw_iload_n (pc := 2) dX6_says_2 0 rfl ?_
    refine xw_aload_n (pc := 3) dX6_says_3 2 rfl ?_
    refine xw_callV (pc := 4) (xr_V (as := []) ok_J9_length rfl (by decide) q2722 q332 q333 (by rw [hT0.1]; rfl) (by rw [hT0.1]; rfl) dX6_says_4 rfl rfl (Nat.le_of_ble_eq_true rfl)) (SP_J9_length hT0 (by omega)) ?_
    refine xw_icmp_ge (pc := 7) 40 dX6_says_7 rfl (fun hb7 => ?_) (fun hb7 => ?_)
    · exfalso
      replace hb7 : u.length ≤ w.length := (nI_leI (a := u.length) (b := w.length) (by omega) (by omega)).mp hb7
      omega
    replace hb7 : ¬ (u.length ≤ w.length) := mt (nI_leI (a := u.length) (b := w.length) (by omega) (by omega)).mpr hb7
    refine xw_aload_n (pc := 10) dX6_says_10 1 rfl ?_
    refine xm_get (p := 13) (pc := 11) hM fd_X6_59 dX6_says_11 rfl ?_
    refine xw_aload_n (pc := 14) dX6_says_14 1 rfl ?_
    refine xm_getN (k := (t ++ w).length) (pc := 15) hM fd_X6_317 dX6_says_15 (by first | exact exS_33 | (rw [mset_q (by decide)]; exact exS_33)) ?_
    refine xw_aload_n (pc := 18) dX6_says_18 2 rfl ?_
    refine xw_iload_n (pc := 19) dX6_says_19 0 rfl ?_
    refine xw_callV (pc := 20) (xr_V (as := [_]) ok_J9_charAt rfl (by decide) q2723 q1930 q2784 (by rw [hT0.1]; rfl) (by rw [hT0.1]; rfl) dX6_says_20 rfl rfl (Nat.le_of_ble_eq_true rfl)) (hcA) ?_
    refine xm_cast (pc := 23) hM dX6_says_23 rfl (by rw [List.length_append]; omega) (by exact (isCh_n hc6).1) (by exact (isCh_n hc6).2) ?_
    refine xw_aload_n (pc := 24) dX6_says_24 1 rfl ?_
    refine xw_dup (pc := 25) dX6_says_25 rfl ?_
    refine xm_getN (k := (t ++ w).length) (pc := 26) hM fd_X6_317 dX6_says_26 (by first | exact exS_33 | (rw [mset_q (by decide)]; exact exS_33)) ?_
    refine xw_iconst (v := nI 1) (pc := 29) dX6_says_29 rfl ?_
    refine xn_iadd (pc := 30) dX6_says_30 ?_
    refine xm_putI (pc := 31) hM fd_X6_317 (xfin_of (by decide) (by decide +kernel)) dX6_says_31 ?_
    refine xw_iinc (v := nI (w.length + 1)) (l' := [(2, _), (0, _), (1, _)]) (pc := 34) dX6_says_34 0 rfl (nI_add _ 1) (by decide) rfl ?_
    refine xw_goto (pc := 37) 2 dX6_says_37 rfl ?_
    rw [exS_push, List.append_assoc, show w.length + 1 = (w ++ [c]).length from by rw [List.length_append]; rfl]
    exact ih (w ++ [c]) (by rw [List.append_assoc]; exact hu)
theorem SP_X6_says {d : Nat} {g : xG} {m : Nat} {S : xMS} (hM : xMod g m) {t u : List Nat} {a sv : Nat} (hT : xStr g a sv u.length (gD u)) (hl : t.length + u.length ≤ 200) : XM M_X6_says (d + 4) [.ref m, .ref a] (xWith g m (exS S t)) (xOne none (xWith g m (exS S (t ++ u)))) := by
  refine xm_of (by decide +kernel) (Nat.le_of_ble_eq_true rfl) ?_
  show XW _ _ 0 [(0, _), (1, _)] [] _ _
  refine xw_iconst (v := nI 0) (pc := 0) dX6_says_0 rfl ?_
  refine xw_istore_n (l' := [(2, _), (0, _), (1, _)]) (pc := 1) dX6_says_1 rfl (by decide) rfl ?_
  have h0 := lp_X6_says (d := d) (S := S) hM hT hl u [] rfl
  rw [List.append_nil] at h0
  exact h0

theorem SP_X6_saysC {d : Nat} {g : xG} {m : Nat} {S : xMS} (hM : xMod g m) (hSC : xSC g) {t : List Nat} {i : Nat} (hi : i < 17) (hl : t.length + (xTxt i).length ≤ 200) : XM M_X6_says (d + 4) [.ref m, .ref ((xE g).2.2.1 (10 + i))] (xWith g m (exS S t)) (xOne none (xWith g m (exS S (t ++ xTxt i)))) := by
  obtain ⟨sv, h1, -, -⟩ := hSC i hi
  exact SP_X6_says hM h1 hl
def o313 : Nat → Prop := fun o => o = 3 ∨ o = 13
theorem xFr.q3 {g g' : xG} {N : Nat} (h : xFr (oEq 3) N g g') : xFr o313 N g g' := h.sub (fun o h => Or.inl h) (Nat.le_refl _)
theorem xFr.q13 {g g' : xG} {N : Nat} (h : xFr (oEq 13) N g g') : xFr o313 N g g' := h.sub (fun o h => Or.inr h) (Nat.le_refl _)
/-- the reference's explanation answered -/
def xExp (g : xG) (m : Nat) (S' : xMS) (v : Nat) (rs : Option Value ⊕ Nat) (h : xG) : Prop := rs = .inl (some (.int (nI v))) ∧ ∃ g', h = xWith g' m S' ∧ xMod g' m ∧ xM3 g' m ∧ xFr o313 1000 g g'

theorem end_X6_explain {d : Nat} {g gi : xG} {m : Nat} (hMi : xMod gi m) (hSCi : xSC gi) (h3i : xM3 gi m) {T : xMS} {L : List Nat} {e : Nat} {a1 a2 a3 : Int32} (he : e < 3) (hL5 : L.length ≤ 5) (hLd : ∀ j, j < L.length → L.getD j 0 < 100) (h16 : T 0 16 = nI L.length) (h8 : ∀ j, j < L.length → T 8 j = nI (L.getD j 0)) (F : xFr o313 900 g gi) : XW M_X6_explain (d + 7) 107 [(5, .int (nI L.length)), (4, .int (nI e)), (0, .ref m), (1, .int a1), (2, .int a2), (3, .int a3)] [] (xWith gi m (exS T (exP L L.length))) (xExp g m (exS T (exT L e)) (exT L e).length) := by
  have l2 : (xTxt 11).length = 0 := by decide +kernel
  have l3 : (xTxt 13).length = 7 := by decide +kernel
  have lw : ∀ e, e < 3 → (xTxt (14 + e)).length ≤ 9 := by
    intro e he
    have h9 : e = 0 ∨ e = 1 ∨ e = 2 := by omega
    rcases h9 with rfl | rfl | rfl <;> decide +kernel
  have ew : ∀ e, e < 3 → xTxt (14 + e) = xTxt 4 ++ xTxt (5 + e) := by
    intro e he
    have h9 : e = 0 ∨ e = 1 ∨ e = 2 := by omega
    rcases h9 with rfl | rfl | rfl <;> decide +kernel
  have e11 : xTxt 11 = xTxt 2 := by decide +kernel
  have e13 : xTxt 13 = xTxt 3 := by decide +kernel
  have hpl := exP_len L L.length
  have t16 : exS T (exP L L.length) 0 16 = nI L.length := (exS_0 (by decide)).trans h16
  have hte : exT L e = ((exP L L.length) ++ (if L.length = 0 then xTxt 13 else xTxt 11)) ++ xTxt (14 + e) := by unfold exT; rw [ew e he, e11, e13]; simp only [List.append_assoc]
  by_cases hz : L.length = 0
  · rw [if_pos hz] at hte
    rw [hte]
    refine xw_aload_n (pc := 107) dX6_explain_107 2 rfl ?_
    refine xw_aload_n (pc := 108) dX6_explain_108 2 rfl ?_
    refine xm_getN (k := L.length) (pc := 109) hMi fd_X6_188 dX6_explain_109 (by exact t16) ?_
    refine xw_if_ne (pc := 112) 121 dX6_explain_112 rfl (fun hb112 => ?_) (fun hb112 => ?_)
    · exfalso
      replace hb112 : ¬ (L.length = 0) := mt (nI_eq (a := L.length) (b := 0) (by omega) (by omega)).mpr hb112
      omega
    replace hb112 : L.length = 0 := (nI_eq (a := L.length) (b := 0) (by omega) (by omega)).mp hb112
    have hcE : XM M_X6_says (d + 6) [.ref m, .ref ((xE gi).2.2.1 (10 + 13))] (xWith gi m (exS T (exP L L.length))) (xOne none (xWith gi m (exS T ((exP L L.length) ++ xTxt 13)))) := by
      exact SP_X6_saysC (d := d + 2) hMi hSCi (by decide) (by rw [l3]; omega)
    refine xw_ldcwS (i := 13) (pc := 115) dX6_explain_115 rfl ?_
    refine xw_goto (pc := 118) 124 dX6_explain_118 rfl ?_
    refine xw_callU (pc := 124) (xr_V (as := [_]) ok_X6_says rfl (by decide) q2718 q2720 qs89 (by rw [xtag_with, hMi.1]; rfl) (by rw [xtag_with, hMi.1]; rfl) dX6_explain_124 rfl rfl (Nat.le_of_ble_eq_true rfl)) (hcE) ?_
    refine xw_aload_n (pc := 127) dX6_explain_127 2 rfl ?_
    refine xw_iload (pc := 128) dX6_explain_128 1 rfl ?_
    refine xw_if_ne (pc := 130) 139 dX6_explain_130 rfl (fun hb130 => ?_) (fun hb130 => ?_)
    · replace hb130 : ¬ (e = 0) := mt (nI_eq (a := e) (b := 0) (by omega) (by omega)).mpr hb130
      refine xw_iload (pc := 139) dX6_explain_139 1 rfl ?_
      refine xw_iconst (v := nI 1) (pc := 141) dX6_explain_141 rfl ?_
      refine xw_icmp_ne (pc := 142) 151 dX6_explain_142 rfl (fun hb142 => ?_) (fun hb142 => ?_)
      · replace hb142 : ¬ (e = 1) := mt (nI_eq (a := e) (b := 1) (by omega) (by omega)).mpr hb142
        have e0 : e = 2 := by omega
        have hcF : XM M_X6_says (d + 6) [.ref m, .ref ((xE gi).2.2.1 (10 + 16))] (xWith gi m (exS T ((exP L L.length) ++ xTxt 13))) (xOne none (xWith gi m (exS T (((exP L L.length) ++ xTxt 13) ++ xTxt (14 + e))))) := by
          rw [e0]
          exact SP_X6_saysC (d := d + 2) hMi hSCi (i := 16) (by decide) (by have h9 : (xTxt 16).length ≤ 9 := lw 2 (by decide); rw [List.length_append]; omega)
        refine xw_ldcwS (i := 16) (pc := 151) dX6_explain_151 rfl ?_
        refine xw_callU (pc := 154) (xr_V (as := [_]) ok_X6_says rfl (by decide) q2718 q2720 qs89 (by rw [xtag_with, hMi.1]; rfl) (by rw [xtag_with, hMi.1]; rfl) dX6_explain_154 rfl rfl (Nat.le_of_ble_eq_true rfl)) (hcF) ?_
        refine xw_aload_n (pc := 157) dX6_explain_157 2 rfl ?_
        refine xm_getN (k := _) (pc := 158) hMi fd_X6_317 dX6_explain_158 (by exact exS_33) ?_
        refine xw_iret (pc := 161) .int dX6_explain_161 rfl ?_ 
        exact ⟨rfl, gi, rfl, hMi, h3i, F.sub (fun _ h => h) (by omega)⟩
      · replace hb142 : e = 1 := (nI_eq (a := e) (b := 1) (by omega) (by omega)).mp hb142
        have e0 : e = 1 := by omega
        have hcF : XM M_X6_says (d + 6) [.ref m, .ref ((xE gi).2.2.1 (10 + 15))] (xWith gi m (exS T ((exP L L.length) ++ xTxt 13))) (xOne none (xWith gi m (exS T (((exP L L.length) ++ xTxt 13) ++ xTxt (14 + e))))) := by
          rw [e0]
          exact SP_X6_saysC (d := d + 2) hMi hSCi (i := 15) (by decide) (by have h9 : (xTxt 15).length ≤ 9 := lw 1 (by decide); rw [List.length_append]; omega)
        refine xw_ldcwS (i := 15) (pc := 145) dX6_explain_145 rfl ?_
        refine xw_goto (pc := 148) 154 dX6_explain_148 rfl ?_
        refine xw_callU (pc := 154) (xr_V (as := [_]) ok_X6_says rfl (by decide) q2718 q2720 qs89 (by rw [xtag_with, hMi.1]; rfl) (by rw [xtag_with, hMi.1]; rfl) dX6_explain_154 rfl rfl (Nat.le_of_ble_eq_true rfl)) (hcF) ?_
        refine xw_aload_n (pc := 157) dX6_explain_157 2 rfl ?_
        refine xm_getN (k := _) (pc := 158) hMi fd_X6_317 dX6_explain_158 (by exact exS_33) ?_
        refine xw_iret (pc := 161) .int dX6_explain_161 rfl ?_ 
        exact ⟨rfl, gi, rfl, hMi, h3i, F.sub (fun _ h => h) (by omega)⟩
    · replace hb130 : e = 0 := (nI_eq (a := e) (b := 0) (by omega) (by omega)).mp hb130
      have e0 : e = 0 := by omega
      have hcF : XM M_X6_says (d + 6) [.ref m, .ref ((xE gi).2.2.1 (10 + 14))] (xWith gi m (exS T ((exP L L.length) ++ xTxt 13))) (xOne none (xWith gi m (exS T (((exP L L.length) ++ xTxt 13) ++ xTxt (14 + e))))) := by
        rw [e0]
        exact SP_X6_saysC (d := d + 2) hMi hSCi (i := 14) (by decide) (by have h9 : (xTxt 14).length ≤ 9 := lw 0 (by decide); rw [List.length_append]; omega)
      refine xw_ldcwS (i := 14) (pc := 133) dX6_explain_133 rfl ?_
      refine xw_goto (pc := 136) 154 dX6_explain_136 rfl ?_
      refine xw_callU (pc := 154) (xr_V (as := [_]) ok_X6_says rfl (by decide) q2718 q2720 qs89 (by rw [xtag_with, hMi.1]; rfl) (by rw [xtag_with, hMi.1]; rfl) dX6_explain_154 rfl rfl (Nat.le_of_ble_eq_true rfl)) (hcF) ?_
      refine xw_aload_n (pc := 157) dX6_explain_157 2 rfl ?_
      refine xm_getN (k := _) (pc := 158) hMi fd_X6_317 dX6_explain_158 (by exact exS_33) ?_
      refine xw_iret (pc := 161) .int dX6_explain_161 rfl ?_ 
      exact ⟨rfl, gi, rfl, hMi, h3i, F.sub (fun _ h => h) (by omega)⟩
  · rw [if_neg hz] at hte
    rw [hte]
    refine xw_aload_n (pc := 107) dX6_explain_107 2 rfl ?_
    refine xw_aload_n (pc := 108) dX6_explain_108 2 rfl ?_
    refine xm_getN (k := L.length) (pc := 109) hMi fd_X6_188 dX6_explain_109 (by exact t16) ?_
    refine xw_if_ne (pc := 112) 121 dX6_explain_112 rfl (fun hb112 => ?_) (fun hb112 => ?_)
    rotate_left
    · exfalso
      replace hb112 : L.length = 0 := (nI_eq (a := L.length) (b := 0) (by omega) (by omega)).mp hb112
      omega
    replace hb112 : ¬ (L.length = 0) := mt (nI_eq (a := L.length) (b := 0) (by omega) (by omega)).mpr hb112
    have hcE : XM M_X6_says (d + 6) [.ref m, .ref ((xE gi).2.2.1 (10 + 11))] (xWith gi m (exS T (exP L L.length))) (xOne none (xWith gi m (exS T ((exP L L.length) ++ xTxt 11)))) := by
      exact SP_X6_saysC (d := d + 2) hMi hSCi (by decide) (by rw [l2]; omega)
    refine xw_ldcwS (i := 11) (pc := 121) dX6_explain_121 rfl ?_
    refine xw_callU (pc := 124) (xr_V (as := [_]) ok_X6_says rfl (by decide) q2718 q2720 qs89 (by rw [xtag_with, hMi.1]; rfl) (by rw [xtag_with, hMi.1]; rfl) dX6_explain_124 rfl rfl (Nat.le_of_ble_eq_true rfl)) (hcE) ?_
    refine xw_aload_n (pc := 127) dX6_explain_127 2 rfl ?_
    refine xw_iload (pc := 128) dX6_explain_128 1 rfl ?_
    refine xw_if_ne (pc := 130) 139 dX6_explain_130 rfl (fun hb130 => ?_) (fun hb130 => ?_)
    · replace hb130 : ¬ (e = 0) := mt (nI_eq (a := e) (b := 0) (by omega) (by omega)).mpr hb130
      refine xw_iload (pc := 139) dX6_explain_139 1 rfl ?_
      refine xw_iconst (v := nI 1) (pc := 141) dX6_explain_141 rfl ?_
      refine xw_icmp_ne (pc := 142) 151 dX6_explain_142 rfl (fun hb142 => ?_) (fun hb142 => ?_)
      · replace hb142 : ¬ (e = 1) := mt (nI_eq (a := e) (b := 1) (by omega) (by omega)).mpr hb142
        have e0 : e = 2 := by omega
        have hcF : XM M_X6_says (d + 6) [.ref m, .ref ((xE gi).2.2.1 (10 + 16))] (xWith gi m (exS T ((exP L L.length) ++ xTxt 11))) (xOne none (xWith gi m (exS T (((exP L L.length) ++ xTxt 11) ++ xTxt (14 + e))))) := by
          rw [e0]
          exact SP_X6_saysC (d := d + 2) hMi hSCi (i := 16) (by decide) (by have h9 : (xTxt 16).length ≤ 9 := lw 2 (by decide); rw [List.length_append]; omega)
        refine xw_ldcwS (i := 16) (pc := 151) dX6_explain_151 rfl ?_
        refine xw_callU (pc := 154) (xr_V (as := [_]) ok_X6_says rfl (by decide) q2718 q2720 qs89 (by rw [xtag_with, hMi.1]; rfl) (by rw [xtag_with, hMi.1]; rfl) dX6_explain_154 rfl rfl (Nat.le_of_ble_eq_true rfl)) (hcF) ?_
        refine xw_aload_n (pc := 157) dX6_explain_157 2 rfl ?_
        refine xm_getN (k := _) (pc := 158) hMi fd_X6_317 dX6_explain_158 (by exact exS_33) ?_
        refine xw_iret (pc := 161) .int dX6_explain_161 rfl ?_ 
        exact ⟨rfl, gi, rfl, hMi, h3i, F.sub (fun _ h => h) (by omega)⟩
      · replace hb142 : e = 1 := (nI_eq (a := e) (b := 1) (by omega) (by omega)).mp hb142
        have e0 : e = 1 := by omega
        have hcF : XM M_X6_says (d + 6) [.ref m, .ref ((xE gi).2.2.1 (10 + 15))] (xWith gi m (exS T ((exP L L.length) ++ xTxt 11))) (xOne none (xWith gi m (exS T (((exP L L.length) ++ xTxt 11) ++ xTxt (14 + e))))) := by
          rw [e0]
          exact SP_X6_saysC (d := d + 2) hMi hSCi (i := 15) (by decide) (by have h9 : (xTxt 15).length ≤ 9 := lw 1 (by decide); rw [List.length_append]; omega)
        refine xw_ldcwS (i := 15) (pc := 145) dX6_explain_145 rfl ?_
        refine xw_goto (pc := 148) 154 dX6_explain_148 rfl ?_
        refine xw_callU (pc := 154) (xr_V (as := [_]) ok_X6_says rfl (by decide) q2718 q2720 qs89 (by rw [xtag_with, hMi.1]; rfl) (by rw [xtag_with, hMi.1]; rfl) dX6_explain_154 rfl rfl (Nat.le_of_ble_eq_true rfl)) (hcF) ?_
        refine xw_aload_n (pc := 157) dX6_explain_157 2 rfl ?_
        refine xm_getN (k := _) (pc := 158) hMi fd_X6_317 dX6_explain_158 (by exact exS_33) ?_
        refine xw_iret (pc := 161) .int dX6_explain_161 rfl ?_ 
        exact ⟨rfl, gi, rfl, hMi, h3i, F.sub (fun _ h => h) (by omega)⟩
    · replace hb130 : e = 0 := (nI_eq (a := e) (b := 0) (by omega) (by omega)).mp hb130
      have e0 : e = 0 := by omega
      have hcF : XM M_X6_says (d + 6) [.ref m, .ref ((xE gi).2.2.1 (10 + 14))] (xWith gi m (exS T ((exP L L.length) ++ xTxt 11))) (xOne none (xWith gi m (exS T (((exP L L.length) ++ xTxt 11) ++ xTxt (14 + e))))) := by
        rw [e0]
        exact SP_X6_saysC (d := d + 2) hMi hSCi (i := 14) (by decide) (by have h9 : (xTxt 14).length ≤ 9 := lw 0 (by decide); rw [List.length_append]; omega)
      refine xw_ldcwS (i := 14) (pc := 133) dX6_explain_133 rfl ?_
      refine xw_goto (pc := 136) 154 dX6_explain_136 rfl ?_
      refine xw_callU (pc := 154) (xr_V (as := [_]) ok_X6_says rfl (by decide) q2718 q2720 qs89 (by rw [xtag_with, hMi.1]; rfl) (by rw [xtag_with, hMi.1]; rfl) dX6_explain_154 rfl rfl (Nat.le_of_ble_eq_true rfl)) (hcF) ?_
      refine xw_aload_n (pc := 157) dX6_explain_157 2 rfl ?_
      refine xm_getN (k := _) (pc := 158) hMi fd_X6_317 dX6_explain_158 (by exact exS_33) ?_
      refine xw_iret (pc := 161) .int dX6_explain_161 rfl ?_ 
      exact ⟨rfl, gi, rfl, hMi, h3i, F.sub (fun _ h => h) (by omega)⟩
theorem xDig.with {g : xG} {m : Nat} {S : xMS} (hM : xMod g m) (h : xDig g) : xDig (xWith g m S) := by
  obtain ⟨⟨a1, a2, a3, a4⟩, b1, b2, b3, b4⟩ := h
  have ea : xc (xWith g m S) ((xE g).2.2.1 5) = xc g ((xE g).2.2.1 5) := xc_withN (xblk hM (Or.inr a1))
  have eb : xc (xWith g m S) ((xE g).2.2.1 6) = xc g ((xE g).2.2.1 6) := xc_withN (xblk hM (Or.inr b1))
  exact ⟨⟨(congrArg (fun z : xCell => z.1) ea).trans a1, (congrArg (fun z : xCell => z.2.2.1) ea).trans a2, (congrArg (fun z : xCell => z.2.1) ea).trans a3, fun j hj => (xi_of ea j).trans (a4 j hj)⟩, (congrArg (fun z : xCell => z.1) eb).trans b1, (congrArg (fun z : xCell => z.2.2.1) eb).trans b2, (congrArg (fun z : xCell => z.2.1) eb).trans b3, fun j hj => (xi_of eb j).trans (b4 j hj)⟩
theorem dgL_dgN {k : Nat} : (dgL k).length = dgN k := by unfold dgL dgN; split <;> rfl
theorem dgL_dgC {k j : Nat} (h : j < dgN k) : dgC k j = gD (dgL k) j := by
  unfold dgN at h
  unfold dgC gD dgL
  by_cases h2 : k < 10
  · rw [if_pos h2] at h ⊢
    rw [if_pos h2]
    have : j = 0 := by omega
    rw [this]; rfl
  · rw [if_neg h2] at h ⊢
    rw [if_neg h2]
    have : j = 0 ∨ j = 1 := by omega
    rcases this with e | e <;> rw [e] <;> rfl
theorem xStr.congr {g : xG} {s sv k : Nat} {cs cs' : Nat → Nat} (h : xStr g s sv k cs) (e : ∀ j, j < k → cs j = cs' j) : xStr g s sv k cs' := ⟨h.1, h.2.1, h.2.2.1, h.2.2.2.1, h.2.2.2.2.1, fun j hj => by rw [← e j hj]; exact h.2.2.2.2.2 j hj⟩
theorem tn_X6_explain {d : Nat} {gi : xG} {m : Nat} (hMi : xMod gi m) (hSCi : xSC gi) (hDi : xDig gi) (h3i : xM3 gi m) {T : xMS} {L t : List Nat} {k e : Nat} {a1 a2 a3 : Int32} (hk : k < L.length) (hL5 : L.length ≤ 5) (hkd : L.getD k 0 < 100) (h8 : T 8 k = nI (L.getD k 0)) (ht : t.length ≤ 100) {Q : Option Value ⊕ Nat → xG → Prop} (hq : ∀ g', xMod g' m → xSC g' → xDig g' → xM3 g' m → xFr o313 60 gi g' → XW M_X6_explain (d + 7) 101 [(5, .int (nI k)), (4, .int (nI e)), (0, .ref m), (1, .int a1), (2, .int a2), (3, .int a3)] [] (xWith g' m (exS T (t ++ dgL (L.getD k 0)))) Q) : XW M_X6_explain (d + 7) 71 [(5, .int (nI k)), (4, .int (nI e)), (0, .ref m), (1, .int a1), (2, .int a2), (3, .int a3)] [] (xWith gi m (exS T t)) Q := by
  have l2 : (xTxt 11).length = 0 := by decide +kernel
  have hMx := hMi
  have FN : xFr (oEq 13) 10 (xWith gi m (exS T t)) (xNew (xWith gi m (exS T t)) (xBlank 19 13 4) 4) := (xFr.rf (n := 0)).nw.sub (fun _ h => h) (by decide)
  refine xw_aload_n (pc := 71) dX6_explain_71 2 rfl ?_
  refine xw_new (t := 19) (pc := 72) 13 dX6_explain_72 rfl (by decide) (by first | decide | assumption | omega) q2724 q221 q102 ?_
  refine xw_at (a := (xsz gi)) (by rfl) ?_
  refine xw_dup (pc := 75) dX6_explain_75 rfl ?_
  refine xw_callH (pc := 76) (xr_I (as := []) ok_J8_init rfl (by decide) q2725 q223 rfl rfl dX6_explain_76 rfl rfl (Nat.le_of_ble_eq_true rfl)) (SP_J8_init (d := d + 4) (o := 13) (b := xsz gi) (xtag_newS rfl) (xown_newS rfl) (by decide) (xi_newS rfl) (gD [])) ?_
  intro g76 hc76 hm76
  obtain ⟨hB76, hl76, F760⟩ := hc76
  have F76 : xFr (oEq 13) 27 (xWith gi m (exS T t)) g76 := (FN.tr F760).sub (fun _ h => h) (by omega)
  obtain ⟨sv, hS79, hS79o, hS79v⟩ := ((hSCi.with hMi).fr F76 (by unfold oEq; omega)) 11 (by decide)
  generalize xsz (xNew (xWith gi m (exS T t)) (xBlank 19 13 4) 4) = v at hB76 hl76
  have hv76 : v < xsz g76 := xlt (by rw [hB76.1.2.2.2.2.1]; decide)
  refine xw_ldcwS (i := 11) (pc := 79) dX6_explain_79 rfl ?_
  refine xw_callF (pc := 82) (xr_V (as := [_]) ok_J8_append rfl (by decide) q2726 q255 q256 (by first | (rw [hB82.1.1]; rfl) | (rw [hB92.1.1]; rfl) | (rw [hB76.1.1]; rfl) | (rw [xtag_newS rfl]; rfl)) (by first | (rw [hB82.1.1]; rfl) | (rw [hB92.1.1]; rfl) | (rw [hB76.1.1]; rfl) | (rw [xtag_newS rfl]; rfl)) dX6_explain_82 rfl rfl (Nat.le_of_ble_eq_true rfl)) (SP_J8_appendK (d := d) hB76 (by decide) hS79 (by rw [hS79o]; decide) (by rw [hS79v]; decide) (by rw [hl76, l2]; decide)) ?_
  intro g82 hc82 hm82
  obtain ⟨hB82, F820⟩ := hc82
  rw [l2] at hB82
  have F82 : xFr (oEq 13) 27 (xWith gi m (exS T t)) g82 := (F76.tr F820).sub (fun _ h => h) (by omega)
  obtain ⟨e82, hM82, h382⟩ := with_fr hMi h3i F82 (by unfold oEq; omega)
  have hMx := hM82
  have hl82 : xlen g82 v = 16 := (F820.len hv76).trans hl76
  have hv82 : v < xsz g82 := F820.lt hv76
  have hD82 : xDig g82 := (hDi.with hMi).fr F82 (by unfold oEq; omega)
  refine XW.eqv e82.symm ?_
  refine xw_aload_n (pc := 85) dX6_explain_85 2 rfl ?_
  refine xm_get (p := 8) (pc := 86) hMx fd_X6_36 dX6_explain_86 rfl ?_
  refine xw_iload (pc := 89) dX6_explain_89 0 rfl ?_
  refine xm_ialdN (v := (L.getD k 0)) (pc := 91) hMx dX6_explain_91 rfl (by omega) (by exact (congrFun (exS_q (by decide) (by decide)) k).trans h8) ?_
  refine XW.eqv e82 ?_
  refine xw_callF (pc := 92) (xr_V (as := [_]) ok_J8_append_2 rfl (by decide) q2727 q375 q376 (by first | (rw [hB82.1.1]; rfl) | (rw [hB92.1.1]; rfl) | (rw [hB76.1.1]; rfl) | (rw [xtag_newS rfl]; rfl)) (by first | (rw [hB82.1.1]; rfl) | (rw [hB92.1.1]; rfl) | (rw [hB76.1.1]; rfl) | (rw [xtag_newS rfl]; rfl)) dX6_explain_92 rfl rfl (Nat.le_of_ble_eq_true rfl)) (SP_J8_append_2K (d := d) hB82 (by decide) hD82 hkd (by rw [hl82]; decide)) ?_
  intro g92 hc92 hm92
  obtain ⟨hB92, F920⟩ := hc92
  have F92 : xFr (oEq 13) 27 (xWith gi m (exS T t)) g92 := (F82.tr F920).sub (fun _ h => h) (by omega)
  have hl92 : xlen g92 v = 16 := (F920.len hv82).trans hl82
  have hdn : dgN (L.getD k 0) ≤ 2 := by unfold dgN; split <;> decide
  refine xw_callF (pc := 95) (xr_V (as := []) ok_J8_toString rfl (by decide) q2728 q400 q401 (by first | (rw [hB82.1.1]; rfl) | (rw [hB92.1.1]; rfl) | (rw [hB76.1.1]; rfl) | (rw [xtag_newS rfl]; rfl)) (by first | (rw [hB82.1.1]; rfl) | (rw [hB92.1.1]; rfl) | (rw [hB76.1.1]; rfl) | (rw [xtag_newS rfl]; rfl)) dX6_explain_95 rfl rfl (Nat.le_of_ble_eq_true rfl)) (SP_J8_toString (d := d + 1) hB92 (by decide) (by rw [hl92]; omega)) ?_
  intro g95 hc95 hm95
  obtain ⟨sv2, hT95, -, -, F950⟩ := hc95
  have F95 : xFr (oEq 13) 60 (xWith gi m (exS T t)) g95 := (F92.tr F950).sub (fun _ h => h) (by omega)
  obtain ⟨e95, hM95, h395⟩ := with_fr hMi h3i F95 (by unfold oEq; omega)
  have hMx := hM95
  have hT95' : xStr g95 (xsz g92) sv2 (dgL (L.getD k 0)).length (gD (dgL (L.getD k 0))) := by
    rw [dgL_dgN]
    have h9 := hT95.congr (cs' := gD (dgL (L.getD k 0))) (fun j hj => by
      have hj2 : j < dgN (L.getD k 0) := by omega
      rw [← dgL_dgC hj2]
      unfold chA
      rw [if_neg (by omega)]
      rw [show j - (0 + 0) = j from by omega])
    rw [show 0 + 0 + dgN (L.getD k 0) = dgN (L.getD k 0) from by omega] at h9
    exact h9
  refine XW.eqv e95.symm ?_
  refine xw_callU (pc := 98) (xr_V (as := [_]) ok_X6_says rfl (by decide) q2718 q2720 qs89 (by rw [xtag_with, hMx.1]; rfl) (by rw [xtag_with, hMx.1]; rfl) dX6_explain_98 rfl rfl (Nat.le_of_ble_eq_true rfl)) (SP_X6_says (d := d + 2) hM95 hT95' (by have := dgL_len (L.getD k 0); omega)) ?_
  exact hq g95 hM95 ((hSCi.with hMi).fr F95 (by unfold oEq; omega)) ((hDi.with hMi).fr F95 (by unfold oEq; omega)) h395 (((with_F h3i).q3.tr F95.q13).sub (fun _ h => h) (by omega))
theorem lp_X6_explain {d : Nat} {g : xG} {m : Nat} {T : xMS} {L : List Nat} {e : Nat} {a1 a2 a3 : Int32} (he : e < 3) (hL5 : L.length ≤ 5) (hLd : ∀ j, j < L.length → L.getD j 0 < 100) (h16 : T 0 16 = nI L.length) (h8 : ∀ j, j < L.length → T 8 j = nI (L.getD j 0)) : ∀ (j k N : Nat) (gi : xG), L.length - k < j → k ≤ L.length → xMod gi m → xSC gi → xDig gi → xM3 gi m → xFr o313 N g gi → N ≤ 60 * k → XW M_X6_explain (d + 7) 44 [(5, .int (nI k)), (4, .int (nI e)), (0, .ref m), (1, .int a1), (2, .int a2), (3, .int a3)] [] (xWith gi m (exS T (exP L k))) (xExp g m (exS T (exT L e)) (exT L e).length) := by
  intro j
  induction j with
  | zero => intro k N gi h; omega
  | succ j ih =>
  intro k N gi hj hk hMi hSCi hDi h3i F hN
  have t16 : exS T (exP L k) 0 16 = nI L.length := (exS_0 (by decide)).trans h16
  have l2 : (xTxt 11).length = 0 := by decide +kernel
  have l12 : (xTxt 12).length = 5 := by decide +kernel
  have e11 : xTxt 11 = xTxt 2 := by decide +kernel
  have e12 : xTxt 12 = xTxt 1 := by decide +kernel
  have hpl := exP_len L k
  refine xw_iload (pc := 44) dX6_explain_44 0 rfl ?_
  refine xw_aload_n (pc := 46) dX6_explain_46 2 rfl ?_
  refine xm_getN (k := L.length) (pc := 47) hMi fd_X6_188 dX6_explain_47 (by exact t16) ?_
  refine xw_icmp_ge (pc := 50) 107 dX6_explain_50 rfl (fun hb50 => ?_) (fun hb50 => ?_)
  · replace hb50 : L.length ≤ k := (nI_leI (a := L.length) (b := k) (by omega) (by omega)).mp hb50
    have ek : k = L.length := by omega
    subst ek
    exact end_X6_explain hMi hSCi h3i he hL5 hLd h16 h8 (F.sub (fun _ h => h) (by omega))
  · replace hb50 : ¬ (L.length ≤ k) := mt (nI_leI (a := L.length) (b := k) (by omega) (by omega)).mpr hb50
    have hkl : k < L.length := by omega
    refine xw_aload_n (pc := 53) dX6_explain_53 2 rfl ?_
    refine xw_iload (pc := 54) dX6_explain_54 0 rfl ?_
    refine xw_if_ne (pc := 56) 65 dX6_explain_56 rfl (fun hb56 => ?_) (fun hb56 => ?_)
    · replace hb56 : ¬ (k = 0) := mt (nI_eq (a := k) (b := 0) (by omega) (by omega)).mpr hb56
      have hk0 : 0 < k := by omega
      have hcE : XM M_X6_says (d + 6) [.ref m, .ref ((xE gi).2.2.1 (10 + 12))] (xWith gi m (exS T (exP L k))) (xOne none (xWith gi m (exS T ((exP L k) ++ xTxt 12)))) := by
        exact SP_X6_saysC (d := d + 2) hMi hSCi (by decide) (by rw [l12]; omega)
      refine xw_ldcwS (i := 12) (pc := 65) dX6_explain_65 rfl ?_
      refine xw_callU (pc := 68) (xr_V (as := [_]) ok_X6_says rfl (by decide) q2718 q2720 qs89 (by rw [xtag_with, hMi.1]; rfl) (by rw [xtag_with, hMi.1]; rfl) dX6_explain_68 rfl rfl (Nat.le_of_ble_eq_true rfl)) (hcE) ?_
      refine tn_X6_explain hMi hSCi hDi h3i hkl hL5 (hLd k hkl) (h8 k hkl) (by rw [List.length_append]; omega) (fun g' y1 y2 y3 y4 y5 => ?_)
      have hx : ∀ z, z = (if 0 < k then xTxt 1 else xTxt 2) → (exP L k ++ z) ++ dgL (L.getD k 0) = exP L (k + 1) := fun z hz => by rw [hz]; rfl
      first
      | rw [hx (xTxt 12) (by rw [if_pos hk0]; exact e12)]
      | rw [hx (xTxt 11) (by rw [if_neg hk0]; exact e11)]
      refine xw_iinc (v := nI (k + 1)) (pc := 101) (l' := [(5, _), (4, _), (0, _), (1, _), (2, _), (3, _)]) dX6_explain_101 0 rfl (nI_add _ 1) (by decide) rfl ?_
      refine xw_goto (pc := 104) 44 dX6_explain_104 rfl ?_
      exact ih (k + 1) (N + 60) g' (by omega) (by omega) y1 y2 y3 y4 ((F.tr y5).sub (fun _ h => h) (Nat.le_refl _)) (by omega)
    · replace hb56 : k = 0 := (nI_eq (a := k) (b := 0) (by omega) (by omega)).mp hb56
      have hk0 : ¬ 0 < k := by omega
      have hcE : XM M_X6_says (d + 6) [.ref m, .ref ((xE gi).2.2.1 (10 + 11))] (xWith gi m (exS T (exP L k))) (xOne none (xWith gi m (exS T ((exP L k) ++ xTxt 11)))) := by
        exact SP_X6_saysC (d := d + 2) hMi hSCi (by decide) (by rw [l2]; omega)
      refine xw_ldcwS (i := 11) (pc := 59) dX6_explain_59 rfl ?_
      refine xw_goto (pc := 62) 68 dX6_explain_62 rfl ?_
      refine xw_callU (pc := 68) (xr_V (as := [_]) ok_X6_says rfl (by decide) q2718 q2720 qs89 (by rw [xtag_with, hMi.1]; rfl) (by rw [xtag_with, hMi.1]; rfl) dX6_explain_68 rfl rfl (Nat.le_of_ble_eq_true rfl)) (hcE) ?_
      refine tn_X6_explain hMi hSCi hDi h3i hkl hL5 (hLd k hkl) (h8 k hkl) (by rw [List.length_append]; omega) (fun g' y1 y2 y3 y4 y5 => ?_)
      have hx : ∀ z, z = (if 0 < k then xTxt 1 else xTxt 2) → (exP L k ++ z) ++ dgL (L.getD k 0) = exP L (k + 1) := fun z hz => by rw [hz]; rfl
      first
      | rw [hx (xTxt 12) (by rw [if_pos hk0]; exact e12)]
      | rw [hx (xTxt 11) (by rw [if_neg hk0]; exact e11)]
      refine xw_iinc (v := nI (k + 1)) (pc := 101) (l' := [(5, _), (4, _), (0, _), (1, _), (2, _), (3, _)]) dX6_explain_101 0 rfl (nI_add _ 1) (by decide) rfl ?_
      refine xw_goto (pc := 104) 44 dX6_explain_104 rfl ?_
      exact ih (k + 1) (N + 60) g' (by omega) (by omega) y1 y2 y3 y4 ((F.tr y5).sub (fun _ h => h) (Nat.le_refl _)) (by omega)
theorem SP_X6_explain_W {d : Nat} {g : xG} {m : Nat} {S : xMS} (hM : xMod g m) (a b c : Int32) (w : Nat) (hw0 : 0 < w) (hw2 : w ≤ 2) (hw : wrongC S a b c = w) : XM M_X6_explain (d + 7) [.ref m, .int a, .int b, .int c] (xWith g m S) (xOne (some (.int (nI 0))) (xWith g m (mset S 0 6 (nI w)))) := by
  refine xm_of (by decide +kernel) (Nat.le_of_ble_eq_true rfl) ?_
  show XW _ _ 0 [(0, _), (1, _), (2, _), (3, _)] [] _ _
  refine xw_aload_n (pc := 0) dX6_explain_0 0 rfl ?_
  refine xw_aload_n (pc := 1) dX6_explain_1 0 rfl ?_
  refine xw_iload_n (pc := 2) dX6_explain_2 1 rfl ?_
  refine xw_iload_n (pc := 3) dX6_explain_3 2 rfl ?_
  refine xw_iload_n (pc := 4) dX6_explain_4 3 rfl ?_
  refine xw_callV (pc := 5) (xr_V (as := [_, _, _]) ok_X6_wrongCase rfl (by decide) q2500 q2502 qs67 (by rw [xtag_with, hM.1]; rfl) (by rw [xtag_with, hM.1]; rfl) dX6_explain_5 rfl rfl (Nat.le_of_ble_eq_true rfl)) (SP_X6_wrongCaseW hM w hw) ?_
  refine xm_putI (pc := 8) hM fd_X6_62 (xfin_of (by decide) (by decide +kernel)) dX6_explain_8 ?_
  refine xw_aload_n (pc := 11) dX6_explain_11 0 rfl ?_
  refine xm_getN (k := w) (pc := 12) hM fd_X6_62 dX6_explain_12 (by first | rfl | (simp [mset, mcpy]; done)) ?_
  refine xw_if_le (pc := 15) 20 dX6_explain_15 rfl (fun hb15 => ?_) (fun hb15 => ?_)
  · exfalso
    replace hb15 : w ≤ 0 := (nI_leI (a := w) (b := 0) (by omega) (by omega)).mp hb15
    omega
  replace hb15 : ¬ (w ≤ 0) := mt (nI_leI (a := w) (b := 0) (by omega) (by omega)).mpr hb15
  refine xw_iconst (v := nI 0) (pc := 18) dX6_explain_18 rfl ?_
  refine xw_iret (pc := 19) .int dX6_explain_19 rfl ?_ 
  exact ⟨rfl, rfl⟩
theorem lookP_lookP {S : xMS} {C H : Nat → Bool} {a n : Nat} : lookP (lookP S C H a n) C H a n = lookP S C H a n := by
  funext p j
  unfold lookP
  by_cases h6 : p = 6 ∧ a ≤ j ∧ j < n
  · rw [if_pos h6, if_pos h6]
  · rw [if_neg h6, if_neg h6]
    by_cases h7 : p = 7 ∧ a ≤ j ∧ j < n
    · rw [if_pos h7, if_pos h7]
    · rw [if_neg h7, if_neg h7]
theorem getD_lt {L : List Nat} {b j : Nat} (h : ∀ x ∈ L, x < b) (hj : j < L.length) : L.getD j 0 < b := by
  rw [List.getD_eq_getElem?_getD, List.getElem?_eq_getElem hj]
  exact h _ (List.getElem_mem hj)
theorem SP_X6_explain {d : Nat} {g : xG} {m : Nat} {S : xMS} (hM : xMod g m) (n rr k : Nat) (hn : n ≤ 10) (h0 : S 1 0 = nI n) (hr : rr ≤ 16) (hk : k < n) (h1 : S 1 1 = nI rr) (hW : WFo (S 1) n) (hWr : WFr (S 1) n rr) (day feats : Int32) (hcs : isCs day feats = true) (C H : Nat → Bool) (hC : C = cov (S 1) (S 0 14) k day feats) (hH : H = hld (isPa (S 1)) rr C) (h4 : ¬ S 1 4 < 0) (hSC : xSC g) (hDg : xDig g) (h3 : xM3 g m) {e : Nat} (he : e < 3) (hoe : ocm (S 1) H rr k = nI e) (hL5 : (chn (S 1) C H rr).length ≤ 5) : XM M_X6_explain (d + 7) [.ref m, .int (nI k), .int day, .int feats] (xWith g m S) (xExp g m (exS (chnS (lookP (mset S 0 6 (nI 0)) C H 0 rr) (chn (S 1) C H rr)) (exT (chn (S 1) C H rr) e)) (exT (chn (S 1) C H rr) e).length) := by
  have e1 : (mset S 0 6 (nI 0)) 1 = S 1 := mset_q (by decide)
  have e2 : (lookP (mset S 0 6 (nI 0)) C H 0 rr) 1 = S 1 := (lookP_q (by decide) (by decide)).trans e1
  refine xm_of (by decide +kernel) (Nat.le_of_ble_eq_true rfl) ?_
  show XW _ _ 0 [(0, _), (1, _), (2, _), (3, _)] [] _ _
  refine xw_aload_n (pc := 0) dX6_explain_0 0 rfl ?_
  refine xw_aload_n (pc := 1) dX6_explain_1 0 rfl ?_
  refine xw_iload_n (pc := 2) dX6_explain_2 1 rfl ?_
  refine xw_iload_n (pc := 3) dX6_explain_3 2 rfl ?_
  refine xw_iload_n (pc := 4) dX6_explain_4 3 rfl ?_
  refine xw_callV (pc := 5) (xr_V (as := [_, _, _]) ok_X6_wrongCase rfl (by decide) q2500 q2502 qs67 (by rw [xtag_with, hM.1]; rfl) (by rw [xtag_with, hM.1]; rfl) dX6_explain_5 rfl rfl (Nat.le_of_ble_eq_true rfl)) (SP_X6_wrongCaseW hM 0 (wrongC_0 hn h0 hk hcs)) ?_
  refine xm_putI (pc := 8) hM fd_X6_62 (xfin_of (by decide) (by decide +kernel)) dX6_explain_8 ?_
  refine xw_aload_n (pc := 11) dX6_explain_11 0 rfl ?_
  refine xm_getN (k := 0) (pc := 12) hM fd_X6_62 dX6_explain_12 (by first | rfl | (simp [mset, mcpy]; done)) ?_
  refine xw_if_le (pc := 15) 20 dX6_explain_15 rfl (fun _ => ?_) (fun hb => absurd hb (by decide))
  refine xw_aload_n (pc := 20) dX6_explain_20 0 rfl ?_
  refine xw_iload_n (pc := 21) dX6_explain_21 1 rfl ?_
  refine xw_iload_n (pc := 22) dX6_explain_22 2 rfl ?_
  refine xw_iload_n (pc := 23) dX6_explain_23 3 rfl ?_
  refine xw_callV (pc := 24) (xr_V (as := [_, _, _]) ok_X6_outcomeOf rfl (by decide) q2532 q2534 qs70 (by rw [xtag_with, hM.1]; rfl) (by rw [xtag_with, hM.1]; rfl) dX6_explain_24 rfl rfl (Nat.le_of_ble_eq_true rfl)) (SP_X6_outcomeOf hM n rr k hn hr hk (by rw [e1]; exact h1) (by rw [e1]; exact hW) (by rw [e1]; exact hWr) day feats C H (by rw [e1]; exact hC) (by rw [e1]; exact hH) (by rw [e1]; exact h4)) ?_
  rw [show ocm ((mset S 0 6 (nI 0)) 1) H rr k = nI e from by rw [e1]; exact hoe]
  refine xw_istore (l' := [(4, _), (0, _), (1, _), (2, _), (3, _)]) (pc := 27) dX6_explain_27 (by decide) rfl ?_
  refine xw_aload_n (pc := 29) dX6_explain_29 1 rfl ?_
  refine xw_iload_n (pc := 30) dX6_explain_30 2 rfl ?_
  refine xw_iload_n (pc := 31) dX6_explain_31 3 rfl ?_
  refine xw_iload_n (pc := 32) dX6_explain_32 4 rfl ?_
  refine xw_callU (pc := 33) (xr_V (as := [_, _, _]) ok_X6_findChain rfl (by decide) q2548 q2550 qs73 (by rw [xtag_with, hM.1]; rfl) (by rw [xtag_with, hM.1]; rfl) dX6_explain_33 rfl rfl (Nat.le_of_ble_eq_true rfl)) (SP_X6_findChain hM n rr k hn hr hk (by rw [e2]; exact h1) (by rw [e2]; exact hW) (by rw [e2]; exact hWr) day feats C H (by rw [e2]; exact hC) (by rw [e2]; exact hH)) ?_
  rw [lookP_lookP, e2]
  refine xw_aload_n (pc := 36) dX6_explain_36 1 rfl ?_
  refine xw_iconst (v := nI 0) (pc := 37) dX6_explain_37 rfl ?_
  refine xm_putI (pc := 38) hM fd_X6_317 (xfin_of (by decide) (by decide +kernel)) dX6_explain_38 ?_
  refine xw_iconst (v := nI 0) (pc := 41) dX6_explain_41 rfl ?_
  refine xw_istore (l' := [(5, _), (4, _), (0, _), (1, _), (2, _), (3, _)]) (pc := 42) dX6_explain_42 (by decide) rfl ?_
  rw [exS_nil]
  exact lp_X6_explain (d := d) he hL5 (fun j hj => Nat.lt_of_lt_of_le (getD_lt chn_lt hj) (by omega)) (by rw [chnS_0, if_pos rfl]) (fun j hj => chnS_8 hj) ((chn (S 1) C H rr).length + 1) 0 0 g (by omega) (Nat.zero_le _) hM hSC hDg h3 xFr.rf (Nat.zero_le _)
