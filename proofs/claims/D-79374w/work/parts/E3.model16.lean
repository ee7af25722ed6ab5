/-! MODEL 16: the reference reads a rule: gone wrong; days and rank -/
set_option maxRecDepth 100000
/-- alike, but for what the reader writes -/
def mAl (S S' : xMS) : Prop := (∀ a, a ≠ 0 → a ≠ 5 → S' a = S a) ∧ ∀ j, j ≠ 11 → (j < 23 ∨ j = 25 ∨ 31 < j) → S' 0 j = S 0 j
theorem mAl.rf {S : xMS} : mAl S S := ⟨fun _ _ _ => rfl, fun _ _ _ => rfl⟩
theorem mAl.tr {S S1 S2 : xMS} (h : mAl S S1) (k : mAl S1 S2) : mAl S S2 := ⟨fun a h0 h5 => (k.1 a h0 h5).trans (h.1 a h0 h5), fun j h1 h2 => (k.2 j h1 h2).trans (h.2 j h1 h2)⟩
theorem mAl.st {S S1 : xMS} {j : Nat} {v : Int32} (h : mAl S S1) (hj : 26 ≤ j ∧ j ≤ 31) : mAl S (mset S1 0 j v) := ⟨fun a h0 h5 => (mset_q h0).trans (h.1 a h0 h5), fun i h1 h2 => by
  show (if 0 = 0 ∧ i = j then v else S1 0 i) = _
  rw [if_neg (by omega)]
  exact h.2 i h1 h2⟩
theorem mAl.mt {S S1 : xMS} {k : Nat} {f g d : Int32} (h : mAl S S1) : mAl S (mtest S1 k f g d) := ⟨fun a h0 h5 => (mtest_qq h0 h5).trans (h.1 a h0 h5), fun i h1 h2 => (mtest_0 h1).trans (h.2 i h1 h2)⟩
theorem mAl.l {S S1 : xMS} {ln : Nat} (h : mAl S S1) (hl : S 0 22 = nI ln) : S1 0 22 = nI ln := (h.2 22 (by decide) (by decide)).trans hl
theorem mAl.c {S S1 : xMS} {ln : Nat} {ch : Nat → Nat} (h : mAl S S1) (hch : ∀ j, j < ln → S 12 j = nI (ch j) ∧ ch j < 65536) : ∀ j, j < ln → S1 12 j = nI (ch j) ∧ ch j < 65536 := fun j hj => by rw [h.1 12 (by decide) (by decide)]; exact hch j hj
/-- gone wrong at q -/
def xMW (g : xG) (m : Nat) (S : xMS) (q : Nat) (rs : Option Value ⊕ Nat) (g' : xG) : Prop := rs = .inl none ∧ ∃ S', g' = xWith g m (rdS S' true q) ∧ mAl S S'
def effV (e : Option Nat) : Int32 := match e with
  | none => -1
  | some k => nI k
/-- what the reference has read -/
def xMR (g : xG) (m : Nat) (S : xMS) (ln : Nat) (X : Except Nat xDf) (rs : Option Value ⊕ Nat) (g' : xG) : Prop := rs = .inl none ∧ ∃ S' w q, g' = xWith g m (rdS S' w q) ∧ mAl S S' ∧ q ≤ ln ∧ match X with
  | .ok (e, o, s, T, f, l, k) => w = false ∧ q = ln ∧ S' 0 26 = effV e ∧ S' 0 27 = ofV o ∧ S' 0 28 = nI s ∧ S' 0 29 = nI f ∧ S' 0 30 = nI l ∧ S' 0 31 = nI k ∧ S' 0 11 = nI T.length ∧ ∀ j, j < T.length → S' 5 (3 * j) = nI (T.getD j (0, 0, 0)).1 ∧ S' 5 (3 * j + 1) = nI (T.getD j (0, 0, 0)).2.1 ∧ S' 5 (3 * j + 2) = nI (T.getD j (0, 0, 0)).2.2
  | .error x => (w = true ∨ q ≠ ln) ∧ q = x
theorem xMR.al {g : xG} {m ln : Nat} {S S1 : xMS} {X : Except Nat xDf} {rs : Option Value ⊕ Nat} {g' : xG} (h : xMR g m S1 ln X rs g') (k : mAl S S1) : xMR g m S ln X rs g' := by
  obtain ⟨e, S', w, q, h1, h2, h3, h4⟩ := h
  exact ⟨e, S', w, q, h1, k.tr h2, h3, h4⟩
theorem xMW.r {g : xG} {m ln q : Nat} {S S1 : xMS} {rs : Option Value ⊕ Nat} {g' : xG} (h : xMW g m S1 q rs g') (k : mAl S S1) (hq : q ≤ ln) : xMR g m S ln (.error q) rs g' := by
  obtain ⟨e, S', h1, h2⟩ := h
  exact ⟨e, S', true, q, h1, k.tr h2, hq, Or.inl rfl, rfl⟩
/-- the tests read so far lie in the reference -/
def mTs (S : xMS) (T : List xT3) : Prop := S 0 11 = nI T.length ∧ ∀ j, j < T.length → S 5 (3 * j) = nI (T.getD j (0, 0, 0)).1 ∧ S 5 (3 * j + 1) = nI (T.getD j (0, 0, 0)).2.1 ∧ S 5 (3 * j + 2) = nI (T.getD j (0, 0, 0)).2.2

theorem rw_166 {d : Nat} {g : xG} {m : Nat} {S : xMS} (hM : xMod g m) (hSC : xSC g) {ln p : Nat} {ch : Nat → Nat} (hl : S 0 22 = nI ln) (hln : ln ≤ 60) (hch : ∀ j, j < ln → S 12 j = nI (ch j) ∧ ch j < 65536) (hp : p ≤ ln) : XW M_X6_readRule (d + 6) 166 [(0, .ref m)] [] (xWith g m (rdS S true p)) (xMW g m S p) := by
  refine xw_aload_n (pc := 166) dX6_readRule_166 0 rfl ?_
  refine xw_bipush (v := nI 33) (pc := 167) dX6_readRule_167 (by decide +kernel) ?_
  refine xw_bipush (v := nI 33) (pc := 169) dX6_readRule_169 (by decide +kernel) ?_
  refine xw_callV (pc := 171) (xr_V (as := [_, _]) ok_X6_isHere rfl (by decide) q2694 q2696 qs86 (by rw [xtag_with, hM.1]; rfl) (by rw [xtag_with, hM.1]; rfl) dX6_readRule_171 rfl rfl (Nat.le_of_ble_eq_true rfl)) ((show XM M_X6_isHere (d + 5) [.ref m, .int (nI 33), .int (nI 33)] (xWith g m (rdS S true p)) (xOne (some (.int (bI false))) (xWith g m (rdS S true p))) from SP_X6_isHere (d := d + 4) (w := true) hM (by decide) (by decide) (show S 0 22 = nI ln from ((mAl.rf).l hl)) hln (show ∀ j, j < ln → S 12 j = nI (ch j) ∧ ch j < 65536 from ((mAl.rf).c hch)) hp)) ?_
  refine xw_if_eq (pc := 174) 195 dX6_readRule_174 rfl (fun _ => ?_) (fun hb => absurd hb (by decide))
  refine xw_vret (pc := 195) dX6_readRule_195 rfl ?_
  exact ⟨rfl, _, rfl, mAl.rf⟩
theorem rw_123 {d : Nat} {g : xG} {m : Nat} {S : xMS} (hM : xMod g m) (hSC : xSC g) {ln p : Nat} {ch : Nat → Nat} (hl : S 0 22 = nI ln) (hln : ln ≤ 60) (hch : ∀ j, j < ln → S 12 j = nI (ch j) ∧ ch j < 65536) (hp : p ≤ ln) : XW M_X6_readRule (d + 6) 123 [(0, .ref m)] [] (xWith g m (rdS S true p)) (xMW g m S p) := by
  refine xw_aload_n (pc := 123) dX6_readRule_123 0 rfl ?_
  refine xw_bipush (v := nI 64) (pc := 124) dX6_readRule_124 (by decide +kernel) ?_
  refine xw_bipush (v := nI 64) (pc := 126) dX6_readRule_126 (by decide +kernel) ?_
  refine xw_callV (pc := 128) (xr_V (as := [_, _]) ok_X6_isHere rfl (by decide) q2694 q2696 qs86 (by rw [xtag_with, hM.1]; rfl) (by rw [xtag_with, hM.1]; rfl) dX6_readRule_128 rfl rfl (Nat.le_of_ble_eq_true rfl)) ((show XM M_X6_isHere (d + 5) [.ref m, .int (nI 64), .int (nI 64)] (xWith g m (rdS S true p)) (xOne (some (.int (bI false))) (xWith g m (rdS S true p))) from SP_X6_isHere (d := d + 4) (w := true) hM (by decide) (by decide) (show S 0 22 = nI ln from ((mAl.rf).l hl)) hln (show ∀ j, j < ln → S 12 j = nI (ch j) ∧ ch j < 65536 from ((mAl.rf).c hch)) hp)) ?_
  refine xw_if_eq (pc := 131) 166 dX6_readRule_131 rfl (fun _ => ?_) (fun hb => absurd hb (by decide))
  refine xw_aload_n (pc := 166) dX6_readRule_166 0 rfl ?_
  refine xw_bipush (v := nI 33) (pc := 167) dX6_readRule_167 (by decide +kernel) ?_
  refine xw_bipush (v := nI 33) (pc := 169) dX6_readRule_169 (by decide +kernel) ?_
  refine xw_callV (pc := 171) (xr_V (as := [_, _]) ok_X6_isHere rfl (by decide) q2694 q2696 qs86 (by rw [xtag_with, hM.1]; rfl) (by rw [xtag_with, hM.1]; rfl) dX6_readRule_171 rfl rfl (Nat.le_of_ble_eq_true rfl)) ((show XM M_X6_isHere (d + 5) [.ref m, .int (nI 33), .int (nI 33)] (xWith g m (rdS S true p)) (xOne (some (.int (bI false))) (xWith g m (rdS S true p))) from SP_X6_isHere (d := d + 4) (w := true) hM (by decide) (by decide) (show S 0 22 = nI ln from ((mAl.rf).l hl)) hln (show ∀ j, j < ln → S 12 j = nI (ch j) ∧ ch j < 65536 from ((mAl.rf).c hch)) hp)) ?_
  refine xw_if_eq (pc := 174) 195 dX6_readRule_174 rfl (fun _ => ?_) (fun hb => absurd hb (by decide))
  refine xw_vret (pc := 195) dX6_readRule_195 rfl ?_
  exact ⟨rfl, _, rfl, mAl.rf⟩
theorem rw_106 {d : Nat} {g : xG} {m : Nat} {S : xMS} (hM : xMod g m) (hSC : xSC g) {ln p : Nat} {ch : Nat → Nat} (hl : S 0 22 = nI ln) (hln : ln ≤ 60) (hch : ∀ j, j < ln → S 12 j = nI (ch j) ∧ ch j < 65536) (hp : p ≤ ln) : XW M_X6_readRule (d + 6) 106 [(0, .ref m)] [] (xWith g m (rdS S true p)) (xMW g m S p) := by
  refine xw_aload_n (pc := 106) dX6_readRule_106 0 rfl ?_
  refine xw_iconst (v := nI 0) (pc := 107) dX6_readRule_107 rfl ?_
  refine xm_putI (pc := 108) hM fd_X6_303 (xfin_of (by decide) (by decide +kernel)) dX6_readRule_108 ?_
  rw [rdS_m (Or.inr ⟨by decide, by decide⟩)]
  refine xw_aload_n (pc := 111) dX6_readRule_111 0 rfl ?_
  refine xw_sipush (v := nI 999) (pc := 112) dX6_readRule_112 (by decide +kernel) ?_
  refine xm_putI (pc := 115) hM fd_X6_306 (xfin_of (by decide) (by decide +kernel)) dX6_readRule_115 ?_
  rw [rdS_m (Or.inr ⟨by decide, by decide⟩)]
  refine xw_aload_n (pc := 118) dX6_readRule_118 0 rfl ?_
  refine xw_iconst (v := nI 0) (pc := 119) dX6_readRule_119 rfl ?_
  refine xm_putI (pc := 120) hM fd_X6_309 (xfin_of (by decide) (by decide +kernel)) dX6_readRule_120 ?_
  rw [rdS_m (Or.inr ⟨by decide, by decide⟩)]
  refine xw_aload_n (pc := 123) dX6_readRule_123 0 rfl ?_
  refine xw_bipush (v := nI 64) (pc := 124) dX6_readRule_124 (by decide +kernel) ?_
  refine xw_bipush (v := nI 64) (pc := 126) dX6_readRule_126 (by decide +kernel) ?_
  refine xw_callV (pc := 128) (xr_V (as := [_, _]) ok_X6_isHere rfl (by decide) q2694 q2696 qs86 (by rw [xtag_with, hM.1]; rfl) (by rw [xtag_with, hM.1]; rfl) dX6_readRule_128 rfl rfl (Nat.le_of_ble_eq_true rfl)) ((show XM M_X6_isHere (d + 5) [.ref m, .int (nI 64), .int (nI 64)] (xWith g m (rdS (mset (mset (mset S 0 29 (nI 0)) 0 30 (nI 999)) 0 31 (nI 0)) true p)) (xOne (some (.int (bI false))) (xWith g m (rdS (mset (mset (mset S 0 29 (nI 0)) 0 30 (nI 999)) 0 31 (nI 0)) true p))) from SP_X6_isHere (d := d + 4) (w := true) hM (by decide) (by decide) (show (mset (mset (mset S 0 29 (nI 0)) 0 30 (nI 999)) 0 31 (nI 0)) 0 22 = nI ln from (((mAl.st (j := 31) (v := (nI 0)) (mAl.st (j := 30) (v := (nI 999)) (mAl.st (j := 29) (v := (nI 0)) mAl.rf (by decide)) (by decide)) (by decide))).l hl)) hln (show ∀ j, j < ln → (mset (mset (mset S 0 29 (nI 0)) 0 30 (nI 999)) 0 31 (nI 0)) 12 j = nI (ch j) ∧ ch j < 65536 from (((mAl.st (j := 31) (v := (nI 0)) (mAl.st (j := 30) (v := (nI 999)) (mAl.st (j := 29) (v := (nI 0)) mAl.rf (by decide)) (by decide)) (by decide))).c hch)) hp)) ?_
  refine xw_if_eq (pc := 131) 166 dX6_readRule_131 rfl (fun _ => ?_) (fun hb => absurd hb (by decide))
  refine xw_aload_n (pc := 166) dX6_readRule_166 0 rfl ?_
  refine xw_bipush (v := nI 33) (pc := 167) dX6_readRule_167 (by decide +kernel) ?_
  refine xw_bipush (v := nI 33) (pc := 169) dX6_readRule_169 (by decide +kernel) ?_
  refine xw_callV (pc := 171) (xr_V (as := [_, _]) ok_X6_isHere rfl (by decide) q2694 q2696 qs86 (by rw [xtag_with, hM.1]; rfl) (by rw [xtag_with, hM.1]; rfl) dX6_readRule_171 rfl rfl (Nat.le_of_ble_eq_true rfl)) ((show XM M_X6_isHere (d + 5) [.ref m, .int (nI 33), .int (nI 33)] (xWith g m (rdS (mset (mset (mset S 0 29 (nI 0)) 0 30 (nI 999)) 0 31 (nI 0)) true p)) (xOne (some (.int (bI false))) (xWith g m (rdS (mset (mset (mset S 0 29 (nI 0)) 0 30 (nI 999)) 0 31 (nI 0)) true p))) from SP_X6_isHere (d := d + 4) (w := true) hM (by decide) (by decide) (show (mset (mset (mset S 0 29 (nI 0)) 0 30 (nI 999)) 0 31 (nI 0)) 0 22 = nI ln from (((mAl.st (j := 31) (v := (nI 0)) (mAl.st (j := 30) (v := (nI 999)) (mAl.st (j := 29) (v := (nI 0)) mAl.rf (by decide)) (by decide)) (by decide))).l hl)) hln (show ∀ j, j < ln → (mset (mset (mset S 0 29 (nI 0)) 0 30 (nI 999)) 0 31 (nI 0)) 12 j = nI (ch j) ∧ ch j < 65536 from (((mAl.st (j := 31) (v := (nI 0)) (mAl.st (j := 30) (v := (nI 999)) (mAl.st (j := 29) (v := (nI 0)) mAl.rf (by decide)) (by decide)) (by decide))).c hch)) hp)) ?_
  refine xw_if_eq (pc := 174) 195 dX6_readRule_174 rfl (fun _ => ?_) (fun hb => absurd hb (by decide))
  refine xw_vret (pc := 195) dX6_readRule_195 rfl ?_
  exact ⟨rfl, _, rfl, (mAl.st (j := 31) (v := (nI 0)) (mAl.st (j := 30) (v := (nI 999)) (mAl.st (j := 29) (v := (nI 0)) mAl.rf (by decide)) (by decide)) (by decide))⟩
theorem rw_100 {d : Nat} {g : xG} {m : Nat} {S : xMS} (hM : xMod g m) (hSC : xSC g) {ln p : Nat} {ch : Nat → Nat} (hl : S 0 22 = nI ln) (hln : ln ≤ 60) (hch : ∀ j, j < ln → S 12 j = nI (ch j) ∧ ch j < 65536) (hp : p ≤ ln) : XW M_X6_readRule (d + 6) 100 [(0, .ref m)] [] (xWith g m (rdS S true p)) (xMW g m S p) := by
  refine xw_aload_n (pc := 100) dX6_readRule_100 0 rfl ?_
  refine xw_bipush (v := nI 41) (pc := 101) dX6_readRule_101 (by decide +kernel) ?_
  refine xw_callU (pc := 103) (xr_V (as := [_]) ok_X6_sign rfl (by decide) q2698 q2700 qs87 (by rw [xtag_with, hM.1]; rfl) (by rw [xtag_with, hM.1]; rfl) dX6_readRule_103 rfl rfl (Nat.le_of_ble_eq_true rfl)) (SP_X6_sign_F (w := true) (c := 41) hM (by decide) (show S 0 22 = nI ln from ((mAl.rf).l hl)) hln (show ∀ j, j < ln → S 12 j = nI (ch j) ∧ ch j < 65536 from ((mAl.rf).c hch)) hp rfl) ?_
  refine xw_aload_n (pc := 106) dX6_readRule_106 0 rfl ?_
  refine xw_iconst (v := nI 0) (pc := 107) dX6_readRule_107 rfl ?_
  refine xm_putI (pc := 108) hM fd_X6_303 (xfin_of (by decide) (by decide +kernel)) dX6_readRule_108 ?_
  rw [rdS_m (Or.inr ⟨by decide, by decide⟩)]
  refine xw_aload_n (pc := 111) dX6_readRule_111 0 rfl ?_
  refine xw_sipush (v := nI 999) (pc := 112) dX6_readRule_112 (by decide +kernel) ?_
  refine xm_putI (pc := 115) hM fd_X6_306 (xfin_of (by decide) (by decide +kernel)) dX6_readRule_115 ?_
  rw [rdS_m (Or.inr ⟨by decide, by decide⟩)]
  refine xw_aload_n (pc := 118) dX6_readRule_118 0 rfl ?_
  refine xw_iconst (v := nI 0) (pc := 119) dX6_readRule_119 rfl ?_
  refine xm_putI (pc := 120) hM fd_X6_309 (xfin_of (by decide) (by decide +kernel)) dX6_readRule_120 ?_
  rw [rdS_m (Or.inr ⟨by decide, by decide⟩)]
  refine xw_aload_n (pc := 123) dX6_readRule_123 0 rfl ?_
  refine xw_bipush (v := nI 64) (pc := 124) dX6_readRule_124 (by decide +kernel) ?_
  refine xw_bipush (v := nI 64) (pc := 126) dX6_readRule_126 (by decide +kernel) ?_
  refine xw_callV (pc := 128) (xr_V (as := [_, _]) ok_X6_isHere rfl (by decide) q2694 q2696 qs86 (by rw [xtag_with, hM.1]; rfl) (by rw [xtag_with, hM.1]; rfl) dX6_readRule_128 rfl rfl (Nat.le_of_ble_eq_true rfl)) ((show XM M_X6_isHere (d + 5) [.ref m, .int (nI 64), .int (nI 64)] (xWith g m (rdS (mset (mset (mset S 0 29 (nI 0)) 0 30 (nI 999)) 0 31 (nI 0)) true p)) (xOne (some (.int (bI false))) (xWith g m (rdS (mset (mset (mset S 0 29 (nI 0)) 0 30 (nI 999)) 0 31 (nI 0)) true p))) from SP_X6_isHere (d := d + 4) (w := true) hM (by decide) (by decide) (show (mset (mset (mset S 0 29 (nI 0)) 0 30 (nI 999)) 0 31 (nI 0)) 0 22 = nI ln from (((mAl.st (j := 31) (v := (nI 0)) (mAl.st (j := 30) (v := (nI 999)) (mAl.st (j := 29) (v := (nI 0)) mAl.rf (by decide)) (by decide)) (by decide))).l hl)) hln (show ∀ j, j < ln → (mset (mset (mset S 0 29 (nI 0)) 0 30 (nI 999)) 0 31 (nI 0)) 12 j = nI (ch j) ∧ ch j < 65536 from (((mAl.st (j := 31) (v := (nI 0)) (mAl.st (j := 30) (v := (nI 999)) (mAl.st (j := 29) (v := (nI 0)) mAl.rf (by decide)) (by decide)) (by decide))).c hch)) hp)) ?_
  refine xw_if_eq (pc := 131) 166 dX6_readRule_131 rfl (fun _ => ?_) (fun hb => absurd hb (by decide))
  refine xw_aload_n (pc := 166) dX6_readRule_166 0 rfl ?_
  refine xw_bipush (v := nI 33) (pc := 167) dX6_readRule_167 (by decide +kernel) ?_
  refine xw_bipush (v := nI 33) (pc := 169) dX6_readRule_169 (by decide +kernel) ?_
  refine xw_callV (pc := 171) (xr_V (as := [_, _]) ok_X6_isHere rfl (by decide) q2694 q2696 qs86 (by rw [xtag_with, hM.1]; rfl) (by rw [xtag_with, hM.1]; rfl) dX6_readRule_171 rfl rfl (Nat.le_of_ble_eq_true rfl)) ((show XM M_X6_isHere (d + 5) [.ref m, .int (nI 33), .int (nI 33)] (xWith g m (rdS (mset (mset (mset S 0 29 (nI 0)) 0 30 (nI 999)) 0 31 (nI 0)) true p)) (xOne (some (.int (bI false))) (xWith g m (rdS (mset (mset (mset S 0 29 (nI 0)) 0 30 (nI 999)) 0 31 (nI 0)) true p))) from SP_X6_isHere (d := d + 4) (w := true) hM (by decide) (by decide) (show (mset (mset (mset S 0 29 (nI 0)) 0 30 (nI 999)) 0 31 (nI 0)) 0 22 = nI ln from (((mAl.st (j := 31) (v := (nI 0)) (mAl.st (j := 30) (v := (nI 999)) (mAl.st (j := 29) (v := (nI 0)) mAl.rf (by decide)) (by decide)) (by decide))).l hl)) hln (show ∀ j, j < ln → (mset (mset (mset S 0 29 (nI 0)) 0 30 (nI 999)) 0 31 (nI 0)) 12 j = nI (ch j) ∧ ch j < 65536 from (((mAl.st (j := 31) (v := (nI 0)) (mAl.st (j := 30) (v := (nI 999)) (mAl.st (j := 29) (v := (nI 0)) mAl.rf (by decide)) (by decide)) (by decide))).c hch)) hp)) ?_
  refine xw_if_eq (pc := 174) 195 dX6_readRule_174 rfl (fun _ => ?_) (fun hb => absurd hb (by decide))
  refine xw_vret (pc := 195) dX6_readRule_195 rfl ?_
  exact ⟨rfl, _, rfl, (mAl.st (j := 31) (v := (nI 0)) (mAl.st (j := 30) (v := (nI 999)) (mAl.st (j := 29) (v := (nI 0)) mAl.rf (by decide)) (by decide)) (by decide))⟩
theorem rw_51 {d : Nat} {g : xG} {m : Nat} {S : xMS} (hM : xMod g m) (hSC : xSC g) {ln p : Nat} {ch : Nat → Nat} (hl : S 0 22 = nI ln) (hln : ln ≤ 60) (hch : ∀ j, j < ln → S 12 j = nI (ch j) ∧ ch j < 65536) (hp : p ≤ ln) : XW M_X6_readRule (d + 6) 51 [(0, .ref m)] [] (xWith g m (rdS S true p)) (xMW g m S p) := by
  refine xw_aload_n (pc := 51) dX6_readRule_51 0 rfl ?_
  refine xw_bipush (v := nI 40) (pc := 52) dX6_readRule_52 (by decide +kernel) ?_
  refine xw_callU (pc := 54) (xr_V (as := [_]) ok_X6_sign rfl (by decide) q2698 q2700 qs87 (by rw [xtag_with, hM.1]; rfl) (by rw [xtag_with, hM.1]; rfl) dX6_readRule_54 rfl rfl (Nat.le_of_ble_eq_true rfl)) (SP_X6_sign_F (w := true) (c := 40) hM (by decide) (show S 0 22 = nI ln from ((mAl.rf).l hl)) hln (show ∀ j, j < ln → S 12 j = nI (ch j) ∧ ch j < 65536 from ((mAl.rf).c hch)) hp rfl) ?_
  refine xw_aload_n (pc := 57) dX6_readRule_57 0 rfl ?_
  refine xw_bipush (v := nI 97) (pc := 58) dX6_readRule_58 (by decide +kernel) ?_
  refine xw_bipush (v := nI 102) (pc := 60) dX6_readRule_60 (by decide +kernel) ?_
  refine xw_callV (pc := 62) (xr_V (as := [_, _]) ok_X6_isHere rfl (by decide) q2694 q2696 qs86 (by rw [xtag_with, hM.1]; rfl) (by rw [xtag_with, hM.1]; rfl) dX6_readRule_62 rfl rfl (Nat.le_of_ble_eq_true rfl)) ((show XM M_X6_isHere (d + 5) [.ref m, .int (nI 97), .int (nI 102)] (xWith g m (rdS S true p)) (xOne (some (.int (bI false))) (xWith g m (rdS S true p))) from SP_X6_isHere (d := d + 4) (w := true) hM (by decide) (by decide) (show S 0 22 = nI ln from ((mAl.rf).l hl)) hln (show ∀ j, j < ln → S 12 j = nI (ch j) ∧ ch j < 65536 from ((mAl.rf).c hch)) hp)) ?_
  refine xw_if_eq (pc := 65) 100 dX6_readRule_65 rfl (fun _ => ?_) (fun hb => absurd hb (by decide))
  refine xw_aload_n (pc := 100) dX6_readRule_100 0 rfl ?_
  refine xw_bipush (v := nI 41) (pc := 101) dX6_readRule_101 (by decide +kernel) ?_
  refine xw_callU (pc := 103) (xr_V (as := [_]) ok_X6_sign rfl (by decide) q2698 q2700 qs87 (by rw [xtag_with, hM.1]; rfl) (by rw [xtag_with, hM.1]; rfl) dX6_readRule_103 rfl rfl (Nat.le_of_ble_eq_true rfl)) (SP_X6_sign_F (w := true) (c := 41) hM (by decide) (show S 0 22 = nI ln from ((mAl.rf).l hl)) hln (show ∀ j, j < ln → S 12 j = nI (ch j) ∧ ch j < 65536 from ((mAl.rf).c hch)) hp rfl) ?_
  refine xw_aload_n (pc := 106) dX6_readRule_106 0 rfl ?_
  refine xw_iconst (v := nI 0) (pc := 107) dX6_readRule_107 rfl ?_
  refine xm_putI (pc := 108) hM fd_X6_303 (xfin_of (by decide) (by decide +kernel)) dX6_readRule_108 ?_
  rw [rdS_m (Or.inr ⟨by decide, by decide⟩)]
  refine xw_aload_n (pc := 111) dX6_readRule_111 0 rfl ?_
  refine xw_sipush (v := nI 999) (pc := 112) dX6_readRule_112 (by decide +kernel) ?_
  refine xm_putI (pc := 115) hM fd_X6_306 (xfin_of (by decide) (by decide +kernel)) dX6_readRule_115 ?_
  rw [rdS_m (Or.inr ⟨by decide, by decide⟩)]
  refine xw_aload_n (pc := 118) dX6_readRule_118 0 rfl ?_
  refine xw_iconst (v := nI 0) (pc := 119) dX6_readRule_119 rfl ?_
  refine xm_putI (pc := 120) hM fd_X6_309 (xfin_of (by decide) (by decide +kernel)) dX6_readRule_120 ?_
  rw [rdS_m (Or.inr ⟨by decide, by decide⟩)]
  refine xw_aload_n (pc := 123) dX6_readRule_123 0 rfl ?_
  refine xw_bipush (v := nI 64) (pc := 124) dX6_readRule_124 (by decide +kernel) ?_
  refine xw_bipush (v := nI 64) (pc := 126) dX6_readRule_126 (by decide +kernel) ?_
  refine xw_callV (pc := 128) (xr_V (as := [_, _]) ok_X6_isHere rfl (by decide) q2694 q2696 qs86 (by rw [xtag_with, hM.1]; rfl) (by rw [xtag_with, hM.1]; rfl) dX6_readRule_128 rfl rfl (Nat.le_of_ble_eq_true rfl)) ((show XM M_X6_isHere (d + 5) [.ref m, .int (nI 64), .int (nI 64)] (xWith g m (rdS (mset (mset (mset S 0 29 (nI 0)) 0 30 (nI 999)) 0 31 (nI 0)) true p)) (xOne (some (.int (bI false))) (xWith g m (rdS (mset (mset (mset S 0 29 (nI 0)) 0 30 (nI 999)) 0 31 (nI 0)) true p))) from SP_X6_isHere (d := d + 4) (w := true) hM (by decide) (by decide) (show (mset (mset (mset S 0 29 (nI 0)) 0 30 (nI 999)) 0 31 (nI 0)) 0 22 = nI ln from (((mAl.st (j := 31) (v := (nI 0)) (mAl.st (j := 30) (v := (nI 999)) (mAl.st (j := 29) (v := (nI 0)) mAl.rf (by decide)) (by decide)) (by decide))).l hl)) hln (show ∀ j, j < ln → (mset (mset (mset S 0 29 (nI 0)) 0 30 (nI 999)) 0 31 (nI 0)) 12 j = nI (ch j) ∧ ch j < 65536 from (((mAl.st (j := 31) (v := (nI 0)) (mAl.st (j := 30) (v := (nI 999)) (mAl.st (j := 29) (v := (nI 0)) mAl.rf (by decide)) (by decide)) (by decide))).c hch)) hp)) ?_
  refine xw_if_eq (pc := 131) 166 dX6_readRule_131 rfl (fun _ => ?_) (fun hb => absurd hb (by decide))
  refine xw_aload_n (pc := 166) dX6_readRule_166 0 rfl ?_
  refine xw_bipush (v := nI 33) (pc := 167) dX6_readRule_167 (by decide +kernel) ?_
  refine xw_bipush (v := nI 33) (pc := 169) dX6_readRule_169 (by decide +kernel) ?_
  refine xw_callV (pc := 171) (xr_V (as := [_, _]) ok_X6_isHere rfl (by decide) q2694 q2696 qs86 (by rw [xtag_with, hM.1]; rfl) (by rw [xtag_with, hM.1]; rfl) dX6_readRule_171 rfl rfl (Nat.le_of_ble_eq_true rfl)) ((show XM M_X6_isHere (d + 5) [.ref m, .int (nI 33), .int (nI 33)] (xWith g m (rdS (mset (mset (mset S 0 29 (nI 0)) 0 30 (nI 999)) 0 31 (nI 0)) true p)) (xOne (some (.int (bI false))) (xWith g m (rdS (mset (mset (mset S 0 29 (nI 0)) 0 30 (nI 999)) 0 31 (nI 0)) true p))) from SP_X6_isHere (d := d + 4) (w := true) hM (by decide) (by decide) (show (mset (mset (mset S 0 29 (nI 0)) 0 30 (nI 999)) 0 31 (nI 0)) 0 22 = nI ln from (((mAl.st (j := 31) (v := (nI 0)) (mAl.st (j := 30) (v := (nI 999)) (mAl.st (j := 29) (v := (nI 0)) mAl.rf (by decide)) (by decide)) (by decide))).l hl)) hln (show ∀ j, j < ln → (mset (mset (mset S 0 29 (nI 0)) 0 30 (nI 999)) 0 31 (nI 0)) 12 j = nI (ch j) ∧ ch j < 65536 from (((mAl.st (j := 31) (v := (nI 0)) (mAl.st (j := 30) (v := (nI 999)) (mAl.st (j := 29) (v := (nI 0)) mAl.rf (by decide)) (by decide)) (by decide))).c hch)) hp)) ?_
  refine xw_if_eq (pc := 174) 195 dX6_readRule_174 rfl (fun _ => ?_) (fun hb => absurd hb (by decide))
  refine xw_vret (pc := 195) dX6_readRule_195 rfl ?_
  exact ⟨rfl, _, rfl, (mAl.st (j := 31) (v := (nI 0)) (mAl.st (j := 30) (v := (nI 999)) (mAl.st (j := 29) (v := (nI 0)) mAl.rf (by decide)) (by decide)) (by decide))⟩
theorem rw_43 {d : Nat} {g : xG} {m : Nat} {S : xMS} (hM : xMod g m) (hSC : xSC g) {ln p : Nat} {ch : Nat → Nat} (hl : S 0 22 = nI ln) (hln : ln ≤ 60) (hch : ∀ j, j < ln → S 12 j = nI (ch j) ∧ ch j < 65536) (hp : p ≤ ln) : XW M_X6_readRule (d + 6) 43 [(0, .ref m)] [] (xWith g m (rdS S true p)) (xMW g m S p) := by
  refine xw_aload_n (pc := 43) dX6_readRule_43 0 rfl ?_
  refine xw_aload_n (pc := 44) dX6_readRule_44 0 rfl ?_
  refine xw_callV (pc := 45) (xr_V (as := []) ok_X6_digit rfl (by decide) q2690 q2692 qs85 (by rw [xtag_with, hM.1]; rfl) (by rw [xtag_with, hM.1]; rfl) dX6_readRule_45 rfl rfl (Nat.le_of_ble_eq_true rfl)) (SP_X6_digit_F (w := true) hM (show S 0 22 = nI ln from ((mAl.rf).l hl)) hln (show ∀ j, j < ln → S 12 j = nI (ch j) ∧ ch j < 65536 from ((mAl.rf).c hch)) hp rfl) ?_
  refine xm_putI (pc := 48) hM fd_X6_297 (xfin_of (by decide) (by decide +kernel)) dX6_readRule_48 ?_
  rw [rdS_m (Or.inr ⟨by decide, by decide⟩)]
  refine xw_aload_n (pc := 51) dX6_readRule_51 0 rfl ?_
  refine xw_bipush (v := nI 40) (pc := 52) dX6_readRule_52 (by decide +kernel) ?_
  refine xw_callU (pc := 54) (xr_V (as := [_]) ok_X6_sign rfl (by decide) q2698 q2700 qs87 (by rw [xtag_with, hM.1]; rfl) (by rw [xtag_with, hM.1]; rfl) dX6_readRule_54 rfl rfl (Nat.le_of_ble_eq_true rfl)) (SP_X6_sign_F (w := true) (c := 40) hM (by decide) (show (mset S 0 28 (nI 0)) 0 22 = nI ln from (((mAl.st (j := 28) (v := (nI 0)) mAl.rf (by decide))).l hl)) hln (show ∀ j, j < ln → (mset S 0 28 (nI 0)) 12 j = nI (ch j) ∧ ch j < 65536 from (((mAl.st (j := 28) (v := (nI 0)) mAl.rf (by decide))).c hch)) hp rfl) ?_
  refine xw_aload_n (pc := 57) dX6_readRule_57 0 rfl ?_
  refine xw_bipush (v := nI 97) (pc := 58) dX6_readRule_58 (by decide +kernel) ?_
  refine xw_bipush (v := nI 102) (pc := 60) dX6_readRule_60 (by decide +kernel) ?_
  refine xw_callV (pc := 62) (xr_V (as := [_, _]) ok_X6_isHere rfl (by decide) q2694 q2696 qs86 (by rw [xtag_with, hM.1]; rfl) (by rw [xtag_with, hM.1]; rfl) dX6_readRule_62 rfl rfl (Nat.le_of_ble_eq_true rfl)) ((show XM M_X6_isHere (d + 5) [.ref m, .int (nI 97), .int (nI 102)] (xWith g m (rdS (mset S 0 28 (nI 0)) true p)) (xOne (some (.int (bI false))) (xWith g m (rdS (mset S 0 28 (nI 0)) true p))) from SP_X6_isHere (d := d + 4) (w := true) hM (by decide) (by decide) (show (mset S 0 28 (nI 0)) 0 22 = nI ln from (((mAl.st (j := 28) (v := (nI 0)) mAl.rf (by decide))).l hl)) hln (show ∀ j, j < ln → (mset S 0 28 (nI 0)) 12 j = nI (ch j) ∧ ch j < 65536 from (((mAl.st (j := 28) (v := (nI 0)) mAl.rf (by decide))).c hch)) hp)) ?_
  refine xw_if_eq (pc := 65) 100 dX6_readRule_65 rfl (fun _ => ?_) (fun hb => absurd hb (by decide))
  refine xw_aload_n (pc := 100) dX6_readRule_100 0 rfl ?_
  refine xw_bipush (v := nI 41) (pc := 101) dX6_readRule_101 (by decide +kernel) ?_
  refine xw_callU (pc := 103) (xr_V (as := [_]) ok_X6_sign rfl (by decide) q2698 q2700 qs87 (by rw [xtag_with, hM.1]; rfl) (by rw [xtag_with, hM.1]; rfl) dX6_readRule_103 rfl rfl (Nat.le_of_ble_eq_true rfl)) (SP_X6_sign_F (w := true) (c := 41) hM (by decide) (show (mset S 0 28 (nI 0)) 0 22 = nI ln from (((mAl.st (j := 28) (v := (nI 0)) mAl.rf (by decide))).l hl)) hln (show ∀ j, j < ln → (mset S 0 28 (nI 0)) 12 j = nI (ch j) ∧ ch j < 65536 from (((mAl.st (j := 28) (v := (nI 0)) mAl.rf (by decide))).c hch)) hp rfl) ?_
  refine xw_aload_n (pc := 106) dX6_readRule_106 0 rfl ?_
  refine xw_iconst (v := nI 0) (pc := 107) dX6_readRule_107 rfl ?_
  refine xm_putI (pc := 108) hM fd_X6_303 (xfin_of (by decide) (by decide +kernel)) dX6_readRule_108 ?_
  rw [rdS_m (Or.inr ⟨by decide, by decide⟩)]
  refine xw_aload_n (pc := 111) dX6_readRule_111 0 rfl ?_
  refine xw_sipush (v := nI 999) (pc := 112) dX6_readRule_112 (by decide +kernel) ?_
  refine xm_putI (pc := 115) hM fd_X6_306 (xfin_of (by decide) (by decide +kernel)) dX6_readRule_115 ?_
  rw [rdS_m (Or.inr ⟨by decide, by decide⟩)]
  refine xw_aload_n (pc := 118) dX6_readRule_118 0 rfl ?_
  refine xw_iconst (v := nI 0) (pc := 119) dX6_readRule_119 rfl ?_
  refine xm_putI (pc := 120) hM fd_X6_309 (xfin_of (by decide) (by decide +kernel)) dX6_readRule_120 ?_
  rw [rdS_m (Or.inr ⟨by decide, by decide⟩)]
  refine xw_aload_n (pc := 123) dX6_readRule_123 0 rfl ?_
  refine xw_bipush (v := nI 64) (pc := 124) dX6_readRule_124 (by decide +kernel) ?_
  refine xw_bipush (v := nI 64) (pc := 126) dX6_readRule_126 (by decide +kernel) ?_
  refine xw_callV (pc := 128) (xr_V (as := [_, _]) ok_X6_isHere rfl (by decide) q2694 q2696 qs86 (by rw [xtag_with, hM.1]; rfl) (by rw [xtag_with, hM.1]; rfl) dX6_readRule_128 rfl rfl (Nat.le_of_ble_eq_true rfl)) ((show XM M_X6_isHere (d + 5) [.ref m, .int (nI 64), .int (nI 64)] (xWith g m (rdS (mset (mset (mset (mset S 0 28 (nI 0)) 0 29 (nI 0)) 0 30 (nI 999)) 0 31 (nI 0)) true p)) (xOne (some (.int (bI false))) (xWith g m (rdS (mset (mset (mset (mset S 0 28 (nI 0)) 0 29 (nI 0)) 0 30 (nI 999)) 0 31 (nI 0)) true p))) from SP_X6_isHere (d := d + 4) (w := true) hM (by decide) (by decide) (show (mset (mset (mset (mset S 0 28 (nI 0)) 0 29 (nI 0)) 0 30 (nI 999)) 0 31 (nI 0)) 0 22 = nI ln from (((mAl.st (j := 31) (v := (nI 0)) (mAl.st (j := 30) (v := (nI 999)) (mAl.st (j := 29) (v := (nI 0)) (mAl.st (j := 28) (v := (nI 0)) mAl.rf (by decide)) (by decide)) (by decide)) (by decide))).l hl)) hln (show ∀ j, j < ln → (mset (mset (mset (mset S 0 28 (nI 0)) 0 29 (nI 0)) 0 30 (nI 999)) 0 31 (nI 0)) 12 j = nI (ch j) ∧ ch j < 65536 from (((mAl.st (j := 31) (v := (nI 0)) (mAl.st (j := 30) (v := (nI 999)) (mAl.st (j := 29) (v := (nI 0)) (mAl.st (j := 28) (v := (nI 0)) mAl.rf (by decide)) (by decide)) (by decide)) (by decide))).c hch)) hp)) ?_
  refine xw_if_eq (pc := 131) 166 dX6_readRule_131 rfl (fun _ => ?_) (fun hb => absurd hb (by decide))
  refine xw_aload_n (pc := 166) dX6_readRule_166 0 rfl ?_
  refine xw_bipush (v := nI 33) (pc := 167) dX6_readRule_167 (by decide +kernel) ?_
  refine xw_bipush (v := nI 33) (pc := 169) dX6_readRule_169 (by decide +kernel) ?_
  refine xw_callV (pc := 171) (xr_V (as := [_, _]) ok_X6_isHere rfl (by decide) q2694 q2696 qs86 (by rw [xtag_with, hM.1]; rfl) (by rw [xtag_with, hM.1]; rfl) dX6_readRule_171 rfl rfl (Nat.le_of_ble_eq_true rfl)) ((show XM M_X6_isHere (d + 5) [.ref m, .int (nI 33), .int (nI 33)] (xWith g m (rdS (mset (mset (mset (mset S 0 28 (nI 0)) 0 29 (nI 0)) 0 30 (nI 999)) 0 31 (nI 0)) true p)) (xOne (some (.int (bI false))) (xWith g m (rdS (mset (mset (mset (mset S 0 28 (nI 0)) 0 29 (nI 0)) 0 30 (nI 999)) 0 31 (nI 0)) true p))) from SP_X6_isHere (d := d + 4) (w := true) hM (by decide) (by decide) (show (mset (mset (mset (mset S 0 28 (nI 0)) 0 29 (nI 0)) 0 30 (nI 999)) 0 31 (nI 0)) 0 22 = nI ln from (((mAl.st (j := 31) (v := (nI 0)) (mAl.st (j := 30) (v := (nI 999)) (mAl.st (j := 29) (v := (nI 0)) (mAl.st (j := 28) (v := (nI 0)) mAl.rf (by decide)) (by decide)) (by decide)) (by decide))).l hl)) hln (show ∀ j, j < ln → (mset (mset (mset (mset S 0 28 (nI 0)) 0 29 (nI 0)) 0 30 (nI 999)) 0 31 (nI 0)) 12 j = nI (ch j) ∧ ch j < 65536 from (((mAl.st (j := 31) (v := (nI 0)) (mAl.st (j := 30) (v := (nI 999)) (mAl.st (j := 29) (v := (nI 0)) (mAl.st (j := 28) (v := (nI 0)) mAl.rf (by decide)) (by decide)) (by decide)) (by decide))).c hch)) hp)) ?_
  refine xw_if_eq (pc := 174) 195 dX6_readRule_174 rfl (fun _ => ?_) (fun hb => absurd hb (by decide))
  refine xw_vret (pc := 195) dX6_readRule_195 rfl ?_
  exact ⟨rfl, _, rfl, (mAl.st (j := 31) (v := (nI 0)) (mAl.st (j := 30) (v := (nI 999)) (mAl.st (j := 29) (v := (nI 0)) (mAl.st (j := 28) (v := (nI 0)) mAl.rf (by decide)) (by decide)) (by decide)) (by decide))⟩
theorem rw_37 {d : Nat} {g : xG} {m : Nat} {S : xMS} (hM : xMod g m) (hSC : xSC g) {ln p : Nat} {ch : Nat → Nat} (hl : S 0 22 = nI ln) (hln : ln ≤ 60) (hch : ∀ j, j < ln → S 12 j = nI (ch j) ∧ ch j < 65536) (hp : p ≤ ln) : XW M_X6_readRule (d + 6) 37 [(0, .ref m)] [] (xWith g m (rdS S true p)) (xMW g m S p) := by
  refine xw_aload_n (pc := 37) dX6_readRule_37 0 rfl ?_
  refine xw_bipush (v := nI 58) (pc := 38) dX6_readRule_38 (by decide +kernel) ?_
  refine xw_callU (pc := 40) (xr_V (as := [_]) ok_X6_sign rfl (by decide) q2698 q2700 qs87 (by rw [xtag_with, hM.1]; rfl) (by rw [xtag_with, hM.1]; rfl) dX6_readRule_40 rfl rfl (Nat.le_of_ble_eq_true rfl)) (SP_X6_sign_F (w := true) (c := 58) hM (by decide) (show S 0 22 = nI ln from ((mAl.rf).l hl)) hln (show ∀ j, j < ln → S 12 j = nI (ch j) ∧ ch j < 65536 from ((mAl.rf).c hch)) hp rfl) ?_
  refine xw_aload_n (pc := 43) dX6_readRule_43 0 rfl ?_
  refine xw_aload_n (pc := 44) dX6_readRule_44 0 rfl ?_
  refine xw_callV (pc := 45) (xr_V (as := []) ok_X6_digit rfl (by decide) q2690 q2692 qs85 (by rw [xtag_with, hM.1]; rfl) (by rw [xtag_with, hM.1]; rfl) dX6_readRule_45 rfl rfl (Nat.le_of_ble_eq_true rfl)) (SP_X6_digit_F (w := true) hM (show S 0 22 = nI ln from ((mAl.rf).l hl)) hln (show ∀ j, j < ln → S 12 j = nI (ch j) ∧ ch j < 65536 from ((mAl.rf).c hch)) hp rfl) ?_
  refine xm_putI (pc := 48) hM fd_X6_297 (xfin_of (by decide) (by decide +kernel)) dX6_readRule_48 ?_
  rw [rdS_m (Or.inr ⟨by decide, by decide⟩)]
  refine xw_aload_n (pc := 51) dX6_readRule_51 0 rfl ?_
  refine xw_bipush (v := nI 40) (pc := 52) dX6_readRule_52 (by decide +kernel) ?_
  refine xw_callU (pc := 54) (xr_V (as := [_]) ok_X6_sign rfl (by decide) q2698 q2700 qs87 (by rw [xtag_with, hM.1]; rfl) (by rw [xtag_with, hM.1]; rfl) dX6_readRule_54 rfl rfl (Nat.le_of_ble_eq_true rfl)) (SP_X6_sign_F (w := true) (c := 40) hM (by decide) (show (mset S 0 28 (nI 0)) 0 22 = nI ln from (((mAl.st (j := 28) (v := (nI 0)) mAl.rf (by decide))).l hl)) hln (show ∀ j, j < ln → (mset S 0 28 (nI 0)) 12 j = nI (ch j) ∧ ch j < 65536 from (((mAl.st (j := 28) (v := (nI 0)) mAl.rf (by decide))).c hch)) hp rfl) ?_
  refine xw_aload_n (pc := 57) dX6_readRule_57 0 rfl ?_
  refine xw_bipush (v := nI 97) (pc := 58) dX6_readRule_58 (by decide +kernel) ?_
  refine xw_bipush (v := nI 102) (pc := 60) dX6_readRule_60 (by decide +kernel) ?_
  refine xw_callV (pc := 62) (xr_V (as := [_, _]) ok_X6_isHere rfl (by decide) q2694 q2696 qs86 (by rw [xtag_with, hM.1]; rfl) (by rw [xtag_with, hM.1]; rfl) dX6_readRule_62 rfl rfl (Nat.le_of_ble_eq_true rfl)) ((show XM M_X6_isHere (d + 5) [.ref m, .int (nI 97), .int (nI 102)] (xWith g m (rdS (mset S 0 28 (nI 0)) true p)) (xOne (some (.int (bI false))) (xWith g m (rdS (mset S 0 28 (nI 0)) true p))) from SP_X6_isHere (d := d + 4) (w := true) hM (by decide) (by decide) (show (mset S 0 28 (nI 0)) 0 22 = nI ln from (((mAl.st (j := 28) (v := (nI 0)) mAl.rf (by decide))).l hl)) hln (show ∀ j, j < ln → (mset S 0 28 (nI 0)) 12 j = nI (ch j) ∧ ch j < 65536 from (((mAl.st (j := 28) (v := (nI 0)) mAl.rf (by decide))).c hch)) hp)) ?_
  refine xw_if_eq (pc := 65) 100 dX6_readRule_65 rfl (fun _ => ?_) (fun hb => absurd hb (by decide))
  refine xw_aload_n (pc := 100) dX6_readRule_100 0 rfl ?_
  refine xw_bipush (v := nI 41) (pc := 101) dX6_readRule_101 (by decide +kernel) ?_
  refine xw_callU (pc := 103) (xr_V (as := [_]) ok_X6_sign rfl (by decide) q2698 q2700 qs87 (by rw [xtag_with, hM.1]; rfl) (by rw [xtag_with, hM.1]; rfl) dX6_readRule_103 rfl rfl (Nat.le_of_ble_eq_true rfl)) (SP_X6_sign_F (w := true) (c := 41) hM (by decide) (show (mset S 0 28 (nI 0)) 0 22 = nI ln from (((mAl.st (j := 28) (v := (nI 0)) mAl.rf (by decide))).l hl)) hln (show ∀ j, j < ln → (mset S 0 28 (nI 0)) 12 j = nI (ch j) ∧ ch j < 65536 from (((mAl.st (j := 28) (v := (nI 0)) mAl.rf (by decide))).c hch)) hp rfl) ?_
  refine xw_aload_n (pc := 106) dX6_readRule_106 0 rfl ?_
  refine xw_iconst (v := nI 0) (pc := 107) dX6_readRule_107 rfl ?_
  refine xm_putI (pc := 108) hM fd_X6_303 (xfin_of (by decide) (by decide +kernel)) dX6_readRule_108 ?_
  rw [rdS_m (Or.inr ⟨by decide, by decide⟩)]
  refine xw_aload_n (pc := 111) dX6_readRule_111 0 rfl ?_
  refine xw_sipush (v := nI 999) (pc := 112) dX6_readRule_112 (by decide +kernel) ?_
  refine xm_putI (pc := 115) hM fd_X6_306 (xfin_of (by decide) (by decide +kernel)) dX6_readRule_115 ?_
  rw [rdS_m (Or.inr ⟨by decide, by decide⟩)]
  refine xw_aload_n (pc := 118) dX6_readRule_118 0 rfl ?_
  refine xw_iconst (v := nI 0) (pc := 119) dX6_readRule_119 rfl ?_
  refine xm_putI (pc := 120) hM fd_X6_309 (xfin_of (by decide) (by decide +kernel)) dX6_readRule_120 ?_
  rw [rdS_m (Or.inr ⟨by decide, by decide⟩)]
  refine xw_aload_n (pc := 123) dX6_readRule_123 0 rfl ?_
  refine xw_bipush (v := nI 64) (pc := 124) dX6_readRule_124 (by decide +kernel) ?_
  refine xw_bipush (v := nI 64) (pc := 126) dX6_readRule_126 (by decide +kernel) ?_
  refine xw_callV (pc := 128) (xr_V (as := [_, _]) ok_X6_isHere rfl (by decide) q2694 q2696 qs86 (by rw [xtag_with, hM.1]; rfl) (by rw [xtag_with, hM.1]; rfl) dX6_readRule_128 rfl rfl (Nat.le_of_ble_eq_true rfl)) ((show XM M_X6_isHere (d + 5) [.ref m, .int (nI 64), .int (nI 64)] (xWith g m (rdS (mset (mset (mset (mset S 0 28 (nI 0)) 0 29 (nI 0)) 0 30 (nI 999)) 0 31 (nI 0)) true p)) (xOne (some (.int (bI false))) (xWith g m (rdS (mset (mset (mset (mset S 0 28 (nI 0)) 0 29 (nI 0)) 0 30 (nI 999)) 0 31 (nI 0)) true p))) from SP_X6_isHere (d := d + 4) (w := true) hM (by decide) (by decide) (show (mset (mset (mset (mset S 0 28 (nI 0)) 0 29 (nI 0)) 0 30 (nI 999)) 0 31 (nI 0)) 0 22 = nI ln from (((mAl.st (j := 31) (v := (nI 0)) (mAl.st (j := 30) (v := (nI 999)) (mAl.st (j := 29) (v := (nI 0)) (mAl.st (j := 28) (v := (nI 0)) mAl.rf (by decide)) (by decide)) (by decide)) (by decide))).l hl)) hln (show ∀ j, j < ln → (mset (mset (mset (mset S 0 28 (nI 0)) 0 29 (nI 0)) 0 30 (nI 999)) 0 31 (nI 0)) 12 j = nI (ch j) ∧ ch j < 65536 from (((mAl.st (j := 31) (v := (nI 0)) (mAl.st (j := 30) (v := (nI 999)) (mAl.st (j := 29) (v := (nI 0)) (mAl.st (j := 28) (v := (nI 0)) mAl.rf (by decide)) (by decide)) (by decide)) (by decide))).c hch)) hp)) ?_
  refine xw_if_eq (pc := 131) 166 dX6_readRule_131 rfl (fun _ => ?_) (fun hb => absurd hb (by decide))
  refine xw_aload_n (pc := 166) dX6_readRule_166 0 rfl ?_
  refine xw_bipush (v := nI 33) (pc := 167) dX6_readRule_167 (by decide +kernel) ?_
  refine xw_bipush (v := nI 33) (pc := 169) dX6_readRule_169 (by decide +kernel) ?_
  refine xw_callV (pc := 171) (xr_V (as := [_, _]) ok_X6_isHere rfl (by decide) q2694 q2696 qs86 (by rw [xtag_with, hM.1]; rfl) (by rw [xtag_with, hM.1]; rfl) dX6_readRule_171 rfl rfl (Nat.le_of_ble_eq_true rfl)) ((show XM M_X6_isHere (d + 5) [.ref m, .int (nI 33), .int (nI 33)] (xWith g m (rdS (mset (mset (mset (mset S 0 28 (nI 0)) 0 29 (nI 0)) 0 30 (nI 999)) 0 31 (nI 0)) true p)) (xOne (some (.int (bI false))) (xWith g m (rdS (mset (mset (mset (mset S 0 28 (nI 0)) 0 29 (nI 0)) 0 30 (nI 999)) 0 31 (nI 0)) true p))) from SP_X6_isHere (d := d + 4) (w := true) hM (by decide) (by decide) (show (mset (mset (mset (mset S 0 28 (nI 0)) 0 29 (nI 0)) 0 30 (nI 999)) 0 31 (nI 0)) 0 22 = nI ln from (((mAl.st (j := 31) (v := (nI 0)) (mAl.st (j := 30) (v := (nI 999)) (mAl.st (j := 29) (v := (nI 0)) (mAl.st (j := 28) (v := (nI 0)) mAl.rf (by decide)) (by decide)) (by decide)) (by decide))).l hl)) hln (show ∀ j, j < ln → (mset (mset (mset (mset S 0 28 (nI 0)) 0 29 (nI 0)) 0 30 (nI 999)) 0 31 (nI 0)) 12 j = nI (ch j) ∧ ch j < 65536 from (((mAl.st (j := 31) (v := (nI 0)) (mAl.st (j := 30) (v := (nI 999)) (mAl.st (j := 29) (v := (nI 0)) (mAl.st (j := 28) (v := (nI 0)) mAl.rf (by decide)) (by decide)) (by decide)) (by decide))).c hch)) hp)) ?_
  refine xw_if_eq (pc := 174) 195 dX6_readRule_174 rfl (fun _ => ?_) (fun hb => absurd hb (by decide))
  refine xw_vret (pc := 195) dX6_readRule_195 rfl ?_
  exact ⟨rfl, _, rfl, (mAl.st (j := 31) (v := (nI 0)) (mAl.st (j := 30) (v := (nI 999)) (mAl.st (j := 29) (v := (nI 0)) (mAl.st (j := 28) (v := (nI 0)) mAl.rf (by decide)) (by decide)) (by decide)) (by decide))⟩
