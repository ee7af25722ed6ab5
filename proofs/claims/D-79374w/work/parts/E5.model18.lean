/-! MODEL 18: the reference reads tests and scope -/
set_option maxRecDepth 100000
/-- the fields read first -/
def mFh (S : xMS) (e o : Option Nat) (s : Nat) (T : List xT3) : Prop := S 0 26 = effV e ∧ S 0 27 = ofV o ∧ S 0 28 = nI s ∧ mTs S T
theorem mTs.push {S : xMS} {T : List xT3} {t : xT3} (h : mTs S T) : mTs (mtest S T.length (nI t.1) (nI t.2.1) (nI t.2.2)) (T ++ [t]) := by
  refine ⟨by rw [List.length_append]; rfl, fun j hj => ?_⟩
  rw [List.length_append] at hj
  have key : ∀ y, y ≠ 3 * T.length → y ≠ 3 * T.length + 1 → y ≠ 3 * T.length + 2 → mtest S T.length (nI t.1) (nI t.2.1) (nI t.2.2) 5 y = S 5 y := fun y h1 h2 h3 => by
    unfold mtest mset
    simp [h1, h2, h3]
  by_cases hj2 : j < T.length
  · rw [show (T ++ [t]).getD j (0, 0, 0) = T.getD j (0, 0, 0) from by rw [List.getD_eq_getElem?_getD, List.getD_eq_getElem?_getD, List.getElem?_append_left hj2]]
    rw [key _ (by omega) (by omega) (by omega), key _ (by omega) (by omega) (by omega), key _ (by omega) (by omega) (by omega)]
    exact h.2 j hj2
  · have e : j = T.length := by simp at hj; omega
    subst e
    rw [show (T ++ [t]).getD T.length (0, 0, 0) = t from by rw [List.getD_eq_getElem?_getD, List.getElem?_append_right (Nat.le_refl _)]; simp]
    unfold mtest mset
    simp
theorem mFh.push {S : xMS} {e o : Option Nat} {s : Nat} {T : List xT3} {t : xT3} (h : mFh S e o s T) : mFh (mtest S T.length (nI t.1) (nI t.2.1) (nI t.2.2)) e o s (T ++ [t]) :=
  ⟨(mtest_0 (by decide)).trans h.1, (mtest_0 (by decide)).trans h.2.1, (mtest_0 (by decide)).trans h.2.2.1, h.2.2.2.push⟩
theorem rTo_el {ln p e : Nat} {ch : Nat → Nat} (h : rTo ln ch p = .error e) (hp : p ≤ ln) : e ≤ ln := by
  unfold rTo at h
  by_cases hI : hIn ln ch p 97 102 = true
  · have := (of_decide_eq_true hI).1
    rw [if_pos hI] at h
    by_cases h1 : p + 1 < ln
    · rw [if_pos h1] at h
      cases hs : sgX (ch (p + 1)) with
      | none => rw [hs] at h; cases h; omega
      | some s =>
        rw [hs] at h
        dsimp only at h
        by_cases h2 : hIn ln ch (p + 2) 48 57 = true
        · rw [if_pos h2] at h; cases h
        · rw [if_neg h2] at h; cases h; omega
    · rw [if_neg h1] at h; cases h; omega
  · rw [if_neg hI] at h; cases h; exact hp
/-- from the tests on -/
def rCo (ln : Nat) (ch : Nat → Nat) (e o : Option Nat) (s : Nat) (X : Except Nat (List xT3 × Nat)) : Except Nat xDf := match X with
  | .ok (T, q) => rDy ln ch q e o s T
  | .error x => .error x

theorem rw_57 {d : Nat} {g : xG} {m : Nat} {S : xMS} (hM : xMod g m) (hSC : xSC g) {ln p : Nat} {ch : Nat → Nat} (hl : S 0 22 = nI ln) (hln : ln ≤ 60) (hch : ∀ j, j < ln → S 12 j = nI (ch j) ∧ ch j < 65536) (hp : p ≤ ln) : XW M_X6_readRule (d + 6) 57 [(0, .ref m)] [] (xWith g m (rdS S true p)) (xMW g m S p) := by
  refine xw_aload_n (pc := 57) dX6_readRule_57 0 rfl ?_
  refine xw_bipush (v := nI 97) (pc := 58) dX6_readRule_58 (by decide +kernel) ?_
  refine xw_bipush (v := nI 102) (pc := 60) dX6_readRule_60 (by decide +kernel) ?_
  refine xw_callV (pc := 62) (xr_V (as := [_, _]) ok_X6_isHere rfl (by decide) q2694 q2696 qs86 (by rw [xtag_with, hM.1]; rfl) (by rw [xtag_with, hM.1]; rfl) dX6_readRule_62 rfl rfl (Nat.le_of_ble_eq_true rfl)) ((show XM M_X6_isHere (d + 5) [.ref m, .int (nI 97), .int (nI 102)] (xWith g m (rdS S true p)) (xOne (some (.int (bI false))) (xWith g m (rdS S true p))) from SP_X6_isHere (d := d + 4) (w := true) hM (by decide) (by decide) hl hln hch hp)) ?_
  refine xw_if_eq (pc := 65) 100 dX6_readRule_65 rfl (fun _ => ?_) (fun hb => absurd hb (by decide))
  exact rw_100 hM hSC hl hln hch hp
theorem rn_106 {d : Nat} {g : xG} {m : Nat} {S : xMS} (hM : xMod g m) (hSC : xSC g) {ln p : Nat} {ch : Nat → Nat} (hl : S 0 22 = nI ln) (hln : ln ≤ 60) (hch : ∀ j, j < ln → S 12 j = nI (ch j) ∧ ch j < 65536) (hp : p ≤ ln) {e o : Option Nat} {s : Nat} {T : List xT3} (hF : mFh S e o s T) : XW M_X6_readRule (d + 6) 106 [(0, .ref m)] [] (xWith g m (rdS S false p)) (xMR g m S ln (rDy ln ch p e o s T)) := by
  refine xw_aload_n (pc := 106) dX6_readRule_106 0 rfl ?_
  refine xw_iconst (v := nI 0) (pc := 107) dX6_readRule_107 rfl ?_
  refine xm_putI (pc := 108) hM fd_X6_303 (xfin_of (by decide) (by decide +kernel)) dX6_readRule_108 ?_
  rw [rdS_m (Or.inr ⟨by decide, by decide⟩)]
  refine xw_aload_n (pc := 111) dX6_readRule_111 0 rfl ?_
  refine xw_sipush (v := nI 999) (pc := 112) dX6_readRule_112 (by decide +kernel) ?_
  refine xm_putI (pc := 115) hM fd_X6_306 (xfin_of (by decide) (by decide +kernel)) dX6_readRule_115 ?_
  rw [rdS_m (Or.inr ⟨by decide, by decide⟩)]
  refine xw_aload_n (pc := 118) dX6_readRule_118 0 rfl ?_
  refine xw_iconst (v := nI 0) (pc := 119) dX6_readRule_119 rfl ?_
  refine xm_putI (pc := 120) hM fd_X6_309 (xfin_of (by decide) (by decide +kernel)) dX6_readRule_120 ?_
  rw [rdS_m (Or.inr ⟨by decide, by decide⟩)]
  exact (rn_123 (S := (mset (mset (mset S 0 29 (nI 0)) 0 30 (nI 999)) 0 31 (nI 0))) hM hSC (mAl.l (mAl.st (j := 31) (v := nI 0) (mAl.st (j := 30) (v := nI 999) (mAl.st (j := 29) (v := nI 0) mAl.rf (by decide)) (by decide)) (by decide)) hl) hln (mAl.c (mAl.st (j := 31) (v := nI 0) (mAl.st (j := 30) (v := nI 999) (mAl.st (j := 29) (v := nI 0) mAl.rf (by decide)) (by decide)) (by decide)) hch) hp ⟨hF.1, hF.2.1, hF.2.2.1, rfl, rfl, rfl, hF.2.2.2.1, hF.2.2.2.2⟩).mono (fun _ _ h9 _ => h9.al (mAl.st (j := 31) (v := nI 0) (mAl.st (j := 30) (v := nI 999) (mAl.st (j := 29) (v := nI 0) mAl.rf (by decide)) (by decide)) (by decide)))
theorem rn_100_T {d : Nat} {g : xG} {m : Nat} {S : xMS} (hM : xMod g m) (hSC : xSC g) {ln p : Nat} {ch : Nat → Nat} (hl : S 0 22 = nI ln) (hln : ln ≤ 60) (hch : ∀ j, j < ln → S 12 j = nI (ch j) ∧ ch j < 65536) (hp : p ≤ ln) {e o : Option Nat} {s : Nat} {T : List xT3} (hF : mFh S e o s T) (h : hIs ln ch p 41 = true) : XW M_X6_readRule (d + 6) 100 [(0, .ref m)] [] (xWith g m (rdS S false p)) (xMR g m S ln (rCo ln ch e o s (if hIs ln ch p 41 = true then .ok (T, p + 1) else .error p))) := by
  rw [if_pos h]
  have hpn := (of_decide_eq_true h).1
  refine xw_aload_n (pc := 100) dX6_readRule_100 0 rfl ?_
  refine xw_bipush (v := nI 41) (pc := 101) dX6_readRule_101 (by decide +kernel) ?_
  refine xw_callU (pc := 103) (xr_V (as := [_]) ok_X6_sign rfl (by decide) q2698 q2700 qs87 (by rw [xtag_with, hM.1]; rfl) (by rw [xtag_with, hM.1]; rfl) dX6_readRule_103 rfl rfl (Nat.le_of_ble_eq_true rfl)) (SP_X6_sign_T (w := false) (c := 41) hM (by decide) hl hln hch hp h) ?_
  exact rn_106 hM hSC hl hln hch (by omega) hF
theorem rn_100_F {d : Nat} {g : xG} {m : Nat} {S : xMS} (hM : xMod g m) (hSC : xSC g) {ln p : Nat} {ch : Nat → Nat} (hl : S 0 22 = nI ln) (hln : ln ≤ 60) (hch : ∀ j, j < ln → S 12 j = nI (ch j) ∧ ch j < 65536) (hp : p ≤ ln) {e o : Option Nat} {s : Nat} {T : List xT3} (hF : mFh S e o s T) (h : hIs ln ch p 41 = false) : XW M_X6_readRule (d + 6) 100 [(0, .ref m)] [] (xWith g m (rdS S false p)) (xMR g m S ln (rCo ln ch e o s (if hIs ln ch p 41 = true then .ok (T, p + 1) else .error p))) := by
  rw [if_neg (Bool.eq_false_iff.mp h)]
  refine xw_aload_n (pc := 100) dX6_readRule_100 0 rfl ?_
  refine xw_bipush (v := nI 41) (pc := 101) dX6_readRule_101 (by decide +kernel) ?_
  refine xw_callU (pc := 103) (xr_V (as := [_]) ok_X6_sign rfl (by decide) q2698 q2700 qs87 (by rw [xtag_with, hM.1]; rfl) (by rw [xtag_with, hM.1]; rfl) dX6_readRule_103 rfl rfl (Nat.le_of_ble_eq_true rfl)) (SP_X6_sign_F (w := false) (c := 41) hM (by decide) hl hln hch hp h) ?_
  exact (rw_106 hM hSC hl hln hch hp).mono (fun _ _ h9 _ => h9.r mAl.rf hp)
theorem rn_100 {d : Nat} {g : xG} {m : Nat} {S : xMS} (hM : xMod g m) (hSC : xSC g) {ln p : Nat} {ch : Nat → Nat} (hl : S 0 22 = nI ln) (hln : ln ≤ 60) (hch : ∀ j, j < ln → S 12 j = nI (ch j) ∧ ch j < 65536) (hp : p ≤ ln) {e o : Option Nat} {s : Nat} {T : List xT3} (hF : mFh S e o s T) : XW M_X6_readRule (d + 6) 100 [(0, .ref m)] [] (xWith g m (rdS S false p)) (xMR g m S ln (rCo ln ch e o s (if hIs ln ch p 41 = true then .ok (T, p + 1) else .error p))) := by
  by_cases h : hIs ln ch p 41 = true
  · exact rn_100_T hM hSC hl hln hch hp hF h
  · exact rn_100_F hM hSC hl hln hch hp hF (Bool.eq_false_iff.mpr h)
theorem rn_72 {d : Nat} {g : xG} {m : Nat} (hM : xMod g m) (hSC : xSC g) {ln : Nat} {ch : Nat → Nat} (hln : ln ≤ 60) {e o : Option Nat} {s : Nat} : ∀ (kf p : Nat) (S : xMS) (T : List xT3), ln - p < kf → S 0 22 = nI ln → (∀ j, j < ln → S 12 j = nI (ch j) ∧ ch j < 65536) → p ≤ ln → mFh S e o s T → 4 * T.length ≤ p → XW M_X6_readRule (d + 6) 72 [(0, .ref m)] [] (xWith g m (rdS S false p)) (xMR g m S ln (rCo ln ch e o s (rMo ln ch kf p T))) := by
  intro kf
  induction kf with
  | zero => intro p S T h; omega
  | succ kf ih =>
    intro p S T hk hl hch hp hF hT4
    unfold rMo
    by_cases h : hIs ln ch p 44 = true
    · rw [if_pos h]
      have hpn := (of_decide_eq_true h).1
      cases hr : rTo ln ch (p + 1) with
      | error x =>
        dsimp only
        have hx := rTo_el hr (by omega)
        refine xw_aload_n (pc := 72) dX6_readRule_72 0 rfl ?_
        refine xw_bipush (v := nI 44) (pc := 73) dX6_readRule_73 (by decide +kernel) ?_
        refine xw_bipush (v := nI 44) (pc := 75) dX6_readRule_75 (by decide +kernel) ?_
        refine xw_callV (pc := 77) (xr_V (as := [_, _]) ok_X6_isHere rfl (by decide) q2694 q2696 qs86 (by rw [xtag_with, hM.1]; rfl) (by rw [xtag_with, hM.1]; rfl) dX6_readRule_77 rfl rfl (Nat.le_of_ble_eq_true rfl)) ((show XM M_X6_isHere (d + 5) [.ref m, .int (nI 44), .int (nI 44)] (xWith g m (rdS S false p)) (xOne (some (.int (bI true))) (xWith g m (rdS S false p))) from by have h9 := SP_X6_isHere (d := d + 4) (w := false) (a := 44) (b := 44) hM (by decide) (by decide) hl hln hch hp; rw [hIn_hIs, h] at h9; exact h9)) ?_
        refine xw_if_eq (pc := 80) 100 dX6_readRule_80 rfl (fun hb => absurd hb (by decide)) (fun _ => ?_)
        refine xw_aload_n (pc := 83) dX6_readRule_83 0 rfl ?_
        refine xw_dup (pc := 84) dX6_readRule_84 rfl ?_
        refine xm_getN (k := p) (pc := 85) hM fd_X6_259 dX6_readRule_85 (by rfl) ?_
        refine xw_iconst (v := nI 1) (pc := 88) dX6_readRule_88 rfl ?_
        refine xn_iadd (pc := 89) dX6_readRule_89 ?_
        refine xm_putI (pc := 90) hM fd_X6_259 (xfin_of (by decide) (by decide +kernel)) dX6_readRule_90 ?_
        rw [show mset (rdS S false p) 0 23 (nI (p + 1)) = rdS S false (p + 1) from rdS_p]
        refine xw_aload_n (pc := 93) dX6_readRule_93 0 rfl ?_
        refine xw_callU (pc := 94) (xr_V (as := []) ok_X6_readTest rfl (by decide) q2702 q2704 qs88 (by rw [xtag_with, hM.1]; rfl) (by rw [xtag_with, hM.1]; rfl) dX6_readRule_94 rfl rfl (Nat.le_of_ble_eq_true rfl)) (SP_X6_readTest_E hM hSC hl hln hch (by omega) hr) ?_
        refine xw_goto (pc := 97) 72 dX6_readRule_97 rfl ?_
        exact (rw_72 hM hSC hl hln hch hx).mono (fun _ _ h9 _ => h9.r mAl.rf hx)
      | ok t =>
        dsimp only
        have hp4 := rTo_lt hr
        refine xw_aload_n (pc := 72) dX6_readRule_72 0 rfl ?_
        refine xw_bipush (v := nI 44) (pc := 73) dX6_readRule_73 (by decide +kernel) ?_
        refine xw_bipush (v := nI 44) (pc := 75) dX6_readRule_75 (by decide +kernel) ?_
        refine xw_callV (pc := 77) (xr_V (as := [_, _]) ok_X6_isHere rfl (by decide) q2694 q2696 qs86 (by rw [xtag_with, hM.1]; rfl) (by rw [xtag_with, hM.1]; rfl) dX6_readRule_77 rfl rfl (Nat.le_of_ble_eq_true rfl)) ((show XM M_X6_isHere (d + 5) [.ref m, .int (nI 44), .int (nI 44)] (xWith g m (rdS S false p)) (xOne (some (.int (bI true))) (xWith g m (rdS S false p))) from by have h9 := SP_X6_isHere (d := d + 4) (w := false) (a := 44) (b := 44) hM (by decide) (by decide) hl hln hch hp; rw [hIn_hIs, h] at h9; exact h9)) ?_
        refine xw_if_eq (pc := 80) 100 dX6_readRule_80 rfl (fun hb => absurd hb (by decide)) (fun _ => ?_)
        refine xw_aload_n (pc := 83) dX6_readRule_83 0 rfl ?_
        refine xw_dup (pc := 84) dX6_readRule_84 rfl ?_
        refine xm_getN (k := p) (pc := 85) hM fd_X6_259 dX6_readRule_85 (by rfl) ?_
        refine xw_iconst (v := nI 1) (pc := 88) dX6_readRule_88 rfl ?_
        refine xn_iadd (pc := 89) dX6_readRule_89 ?_
        refine xm_putI (pc := 90) hM fd_X6_259 (xfin_of (by decide) (by decide +kernel)) dX6_readRule_90 ?_
        rw [show mset (rdS S false p) 0 23 (nI (p + 1)) = rdS S false (p + 1) from rdS_p]
        refine xw_aload_n (pc := 93) dX6_readRule_93 0 rfl ?_
        refine xw_callU (pc := 94) (xr_V (as := []) ok_X6_readTest rfl (by decide) q2702 q2704 qs88 (by rw [xtag_with, hM.1]; rfl) (by rw [xtag_with, hM.1]; rfl) dX6_readRule_94 rfl rfl (Nat.le_of_ble_eq_true rfl)) (SP_X6_readTest_O hM hSC hl hln hch (by omega) (k := T.length) (by omega) hF.2.2.2.1 hr) ?_
        refine xw_goto (pc := 97) 72 dX6_readRule_97 rfl ?_
        exact (ih (p + 4) _ (T ++ [t]) (by omega) ((mAl.mt (k := T.length) (f := nI t.1) (g := nI t.2.1) (d := nI t.2.2) mAl.rf).l hl) ((mAl.mt (k := T.length) (f := nI t.1) (g := nI t.2.1) (d := nI t.2.2) mAl.rf).c hch) (by omega) hF.push (by simp; omega)).mono (fun _ _ h9 _ => h9.al (mAl.mt mAl.rf))
    · rw [if_neg h]
      replace h := Bool.eq_false_iff.mpr h
      refine xw_aload_n (pc := 72) dX6_readRule_72 0 rfl ?_
      refine xw_bipush (v := nI 44) (pc := 73) dX6_readRule_73 (by decide +kernel) ?_
      refine xw_bipush (v := nI 44) (pc := 75) dX6_readRule_75 (by decide +kernel) ?_
      refine xw_callV (pc := 77) (xr_V (as := [_, _]) ok_X6_isHere rfl (by decide) q2694 q2696 qs86 (by rw [xtag_with, hM.1]; rfl) (by rw [xtag_with, hM.1]; rfl) dX6_readRule_77 rfl rfl (Nat.le_of_ble_eq_true rfl)) ((show XM M_X6_isHere (d + 5) [.ref m, .int (nI 44), .int (nI 44)] (xWith g m (rdS S false p)) (xOne (some (.int (bI false))) (xWith g m (rdS S false p))) from by have h9 := SP_X6_isHere (d := d + 4) (w := false) (a := 44) (b := 44) hM (by decide) (by decide) hl hln hch hp; rw [hIn_hIs, h] at h9; exact h9)) ?_
      refine xw_if_eq (pc := 80) 100 dX6_readRule_80 rfl (fun _ => ?_) (fun hb => absurd hb (by decide))
      exact rn_100 hM hSC hl hln hch hp hF
theorem rn_57_E {d : Nat} {g : xG} {m : Nat} {S : xMS} (hM : xMod g m) (hSC : xSC g) {ln p : Nat} {ch : Nat → Nat} (hl : S 0 22 = nI ln) (hln : ln ≤ 60) (hch : ∀ j, j < ln → S 12 j = nI (ch j) ∧ ch j < 65536) (hp : p ≤ ln) {x : Nat} {e o : Option Nat} {s : Nat} (hF : mFh S e o s []) (hI : hIn ln ch p 97 102 = true) (hr : rTo ln ch p = .error x) : XW M_X6_readRule (d + 6) 57 [(0, .ref m)] [] (xWith g m (rdS S false p)) (xMR g m S ln (rCo ln ch e o s (if hIs ln ch p 41 = true then .ok ([], p + 1) else (match rTo ln ch p with
    | .ok t => rMo ln ch (ln + 1) (p + 3) [t]
    | .error x => .error x)))) := by
  have hx := rTo_el hr hp
  have hn41 : hIs ln ch p 41 = false := decide_eq_false (fun e9 => by have h9 := of_decide_eq_true hI; omega)
  rw [if_neg (Bool.eq_false_iff.mp hn41), hr]
  dsimp only
  refine xw_aload_n (pc := 57) dX6_readRule_57 0 rfl ?_
  refine xw_bipush (v := nI 97) (pc := 58) dX6_readRule_58 (by decide +kernel) ?_
  refine xw_bipush (v := nI 102) (pc := 60) dX6_readRule_60 (by decide +kernel) ?_
  refine xw_callV (pc := 62) (xr_V (as := [_, _]) ok_X6_isHere rfl (by decide) q2694 q2696 qs86 (by rw [xtag_with, hM.1]; rfl) (by rw [xtag_with, hM.1]; rfl) dX6_readRule_62 rfl rfl (Nat.le_of_ble_eq_true rfl)) ((show XM M_X6_isHere (d + 5) [.ref m, .int (nI 97), .int (nI 102)] (xWith g m (rdS S false p)) (xOne (some (.int (bI true))) (xWith g m (rdS S false p))) from by have h9 := SP_X6_isHere (d := d + 4) (w := false) (a := 97) (b := 102) hM (by decide) (by decide) hl hln hch hp; rw [hI] at h9; exact h9)) ?_
  refine xw_if_eq (pc := 65) 100 dX6_readRule_65 rfl (fun hb => absurd hb (by decide)) (fun _ => ?_)
  refine xw_aload_n (pc := 68) dX6_readRule_68 0 rfl ?_
  refine xw_callU (pc := 69) (xr_V (as := []) ok_X6_readTest rfl (by decide) q2702 q2704 qs88 (by rw [xtag_with, hM.1]; rfl) (by rw [xtag_with, hM.1]; rfl) dX6_readRule_69 rfl rfl (Nat.le_of_ble_eq_true rfl)) (SP_X6_readTest_E hM hSC hl hln hch hp hr) ?_
  exact (rw_72 hM hSC hl hln hch hx).mono (fun _ _ h9 _ => h9.r mAl.rf hx)
theorem rn_57_O {d : Nat} {g : xG} {m : Nat} {S : xMS} (hM : xMod g m) (hSC : xSC g) {ln p : Nat} {ch : Nat → Nat} (hl : S 0 22 = nI ln) (hln : ln ≤ 60) (hch : ∀ j, j < ln → S 12 j = nI (ch j) ∧ ch j < 65536) (hp : p ≤ ln) {t : xT3} {e o : Option Nat} {s : Nat} (hF : mFh S e o s []) (hI : hIn ln ch p 97 102 = true) (hr : rTo ln ch p = .ok t) (hp1 : 1 ≤ p) : XW M_X6_readRule (d + 6) 57 [(0, .ref m)] [] (xWith g m (rdS S false p)) (xMR g m S ln (rCo ln ch e o s (if hIs ln ch p 41 = true then .ok ([], p + 1) else (match rTo ln ch p with
    | .ok t => rMo ln ch (ln + 1) (p + 3) [t]
    | .error x => .error x)))) := by
  have hp4 := rTo_lt hr
  have hn41 : hIs ln ch p 41 = false := decide_eq_false (fun e9 => by have h9 := of_decide_eq_true hI; omega)
  rw [if_neg (Bool.eq_false_iff.mp hn41), hr]
  dsimp only
  refine xw_aload_n (pc := 57) dX6_readRule_57 0 rfl ?_
  refine xw_bipush (v := nI 97) (pc := 58) dX6_readRule_58 (by decide +kernel) ?_
  refine xw_bipush (v := nI 102) (pc := 60) dX6_readRule_60 (by decide +kernel) ?_
  refine xw_callV (pc := 62) (xr_V (as := [_, _]) ok_X6_isHere rfl (by decide) q2694 q2696 qs86 (by rw [xtag_with, hM.1]; rfl) (by rw [xtag_with, hM.1]; rfl) dX6_readRule_62 rfl rfl (Nat.le_of_ble_eq_true rfl)) ((show XM M_X6_isHere (d + 5) [.ref m, .int (nI 97), .int (nI 102)] (xWith g m (rdS S false p)) (xOne (some (.int (bI true))) (xWith g m (rdS S false p))) from by have h9 := SP_X6_isHere (d := d + 4) (w := false) (a := 97) (b := 102) hM (by decide) (by decide) hl hln hch hp; rw [hI] at h9; exact h9)) ?_
  refine xw_if_eq (pc := 65) 100 dX6_readRule_65 rfl (fun hb => absurd hb (by decide)) (fun _ => ?_)
  refine xw_aload_n (pc := 68) dX6_readRule_68 0 rfl ?_
  refine xw_callU (pc := 69) (xr_V (as := []) ok_X6_readTest rfl (by decide) q2702 q2704 qs88 (by rw [xtag_with, hM.1]; rfl) (by rw [xtag_with, hM.1]; rfl) dX6_readRule_69 rfl rfl (Nat.le_of_ble_eq_true rfl)) (SP_X6_readTest_O hM hSC hl hln hch hp (k := 0) (by omega) hF.2.2.2.1 hr) ?_
  exact (rn_72 hM hSC hln (ln + 1) (p + 3) _ [t] (by omega) ((mAl.mt (k := 0) (f := nI t.1) (g := nI t.2.1) (d := nI t.2.2) mAl.rf).l hl) ((mAl.mt (k := 0) (f := nI t.1) (g := nI t.2.1) (d := nI t.2.2) mAl.rf).c hch) (by omega) (hF.push (t := t)) (by simp; omega)).mono (fun _ _ h9 _ => h9.al (mAl.mt mAl.rf))
theorem rn_57_N {d : Nat} {g : xG} {m : Nat} {S : xMS} (hM : xMod g m) (hSC : xSC g) {ln p : Nat} {ch : Nat → Nat} (hl : S 0 22 = nI ln) (hln : ln ≤ 60) (hch : ∀ j, j < ln → S 12 j = nI (ch j) ∧ ch j < 65536) (hp : p ≤ ln) {e o : Option Nat} {s : Nat} (hF : mFh S e o s []) (hI : hIn ln ch p 97 102 = false) : XW M_X6_readRule (d + 6) 57 [(0, .ref m)] [] (xWith g m (rdS S false p)) (xMR g m S ln (rCo ln ch e o s (if hIs ln ch p 41 = true then .ok ([], p + 1) else (match rTo ln ch p with
    | .ok t => rMo ln ch (ln + 1) (p + 3) [t]
    | .error x => .error x)))) := by
  have hr : rTo ln ch p = .error p := by unfold rTo; rw [if_neg (Bool.eq_false_iff.mp hI)]
  rw [hr]
  dsimp only
  refine xw_aload_n (pc := 57) dX6_readRule_57 0 rfl ?_
  refine xw_bipush (v := nI 97) (pc := 58) dX6_readRule_58 (by decide +kernel) ?_
  refine xw_bipush (v := nI 102) (pc := 60) dX6_readRule_60 (by decide +kernel) ?_
  refine xw_callV (pc := 62) (xr_V (as := [_, _]) ok_X6_isHere rfl (by decide) q2694 q2696 qs86 (by rw [xtag_with, hM.1]; rfl) (by rw [xtag_with, hM.1]; rfl) dX6_readRule_62 rfl rfl (Nat.le_of_ble_eq_true rfl)) ((show XM M_X6_isHere (d + 5) [.ref m, .int (nI 97), .int (nI 102)] (xWith g m (rdS S false p)) (xOne (some (.int (bI false))) (xWith g m (rdS S false p))) from by have h9 := SP_X6_isHere (d := d + 4) (w := false) (a := 97) (b := 102) hM (by decide) (by decide) hl hln hch hp; rw [hI] at h9; exact h9)) ?_
  refine xw_if_eq (pc := 65) 100 dX6_readRule_65 rfl (fun _ => ?_) (fun hb => absurd hb (by decide))
  exact rn_100 hM hSC hl hln hch hp hF
theorem rn_57 {d : Nat} {g : xG} {m : Nat} {S : xMS} (hM : xMod g m) (hSC : xSC g) {ln p : Nat} {ch : Nat → Nat} (hl : S 0 22 = nI ln) (hln : ln ≤ 60) (hch : ∀ j, j < ln → S 12 j = nI (ch j) ∧ ch j < 65536) (hp : p ≤ ln) {e o : Option Nat} {s : Nat} (hF : mFh S e o s []) (hp1 : 1 ≤ p) : XW M_X6_readRule (d + 6) 57 [(0, .ref m)] [] (xWith g m (rdS S false p)) (xMR g m S ln (rCo ln ch e o s (if hIs ln ch p 41 = true then .ok ([], p + 1) else (match rTo ln ch p with
    | .ok t => rMo ln ch (ln + 1) (p + 3) [t]
    | .error x => .error x)))) := by
  by_cases hI : hIn ln ch p 97 102 = true
  · cases hr : rTo ln ch p with
    | error x =>
      have h9 := rn_57_E (d := d) hM hSC hl hln hch hp hF hI hr
      rw [hr] at h9
      exact h9
    | ok t =>
      have h9 := rn_57_O (d := d) hM hSC hl hln hch hp hF hI hr hp1
      rw [hr] at h9
      exact h9
  · exact rn_57_N hM hSC hl hln hch hp hF (Bool.eq_false_iff.mpr hI)
theorem rn_51_T {d : Nat} {g : xG} {m : Nat} {S : xMS} (hM : xMod g m) (hSC : xSC g) {ln p : Nat} {ch : Nat → Nat} (hl : S 0 22 = nI ln) (hln : ln ≤ 60) (hch : ∀ j, j < ln → S 12 j = nI (ch j) ∧ ch j < 65536) (hp : p ≤ ln) {e o : Option Nat} {s : Nat} (hF : mFh S e o s []) (h : hIs ln ch p 40 = true) : XW M_X6_readRule (d + 6) 51 [(0, .ref m)] [] (xWith g m (rdS S false p)) (xMR g m S ln (rCo ln ch e o s (rTs ln ch p))) := by
  unfold rTs
  rw [if_pos h]
  have hpn := (of_decide_eq_true h).1
  refine xw_aload_n (pc := 51) dX6_readRule_51 0 rfl ?_
  refine xw_bipush (v := nI 40) (pc := 52) dX6_readRule_52 (by decide +kernel) ?_
  refine xw_callU (pc := 54) (xr_V (as := [_]) ok_X6_sign rfl (by decide) q2698 q2700 qs87 (by rw [xtag_with, hM.1]; rfl) (by rw [xtag_with, hM.1]; rfl) dX6_readRule_54 rfl rfl (Nat.le_of_ble_eq_true rfl)) (SP_X6_sign_T (w := false) (c := 40) hM (by decide) hl hln hch hp h) ?_
  exact rn_57 hM hSC hl hln hch (by omega) hF (by omega)
theorem rn_51_F {d : Nat} {g : xG} {m : Nat} {S : xMS} (hM : xMod g m) (hSC : xSC g) {ln p : Nat} {ch : Nat → Nat} (hl : S 0 22 = nI ln) (hln : ln ≤ 60) (hch : ∀ j, j < ln → S 12 j = nI (ch j) ∧ ch j < 65536) (hp : p ≤ ln) {e o : Option Nat} {s : Nat} (hF : mFh S e o s []) (h : hIs ln ch p 40 = false) : XW M_X6_readRule (d + 6) 51 [(0, .ref m)] [] (xWith g m (rdS S false p)) (xMR g m S ln (rCo ln ch e o s (rTs ln ch p))) := by
  unfold rTs
  rw [if_neg (Bool.eq_false_iff.mp h)]
  refine xw_aload_n (pc := 51) dX6_readRule_51 0 rfl ?_
  refine xw_bipush (v := nI 40) (pc := 52) dX6_readRule_52 (by decide +kernel) ?_
  refine xw_callU (pc := 54) (xr_V (as := [_]) ok_X6_sign rfl (by decide) q2698 q2700 qs87 (by rw [xtag_with, hM.1]; rfl) (by rw [xtag_with, hM.1]; rfl) dX6_readRule_54 rfl rfl (Nat.le_of_ble_eq_true rfl)) (SP_X6_sign_F (w := false) (c := 40) hM (by decide) hl hln hch hp h) ?_
  exact (rw_57 hM hSC hl hln hch hp).mono (fun _ _ h9 _ => h9.r mAl.rf hp)
theorem rn_51 {d : Nat} {g : xG} {m : Nat} {S : xMS} (hM : xMod g m) (hSC : xSC g) {ln p : Nat} {ch : Nat → Nat} (hl : S 0 22 = nI ln) (hln : ln ≤ 60) (hch : ∀ j, j < ln → S 12 j = nI (ch j) ∧ ch j < 65536) (hp : p ≤ ln) {e o : Option Nat} {s : Nat} (hF : mFh S e o s []) : XW M_X6_readRule (d + 6) 51 [(0, .ref m)] [] (xWith g m (rdS S false p)) (xMR g m S ln (rCo ln ch e o s (rTs ln ch p))) := by
  by_cases h : hIs ln ch p 40 = true
  · exact rn_51_T hM hSC hl hln hch hp hF h
  · exact rn_51_F hM hSC hl hln hch hp hF (Bool.eq_false_iff.mpr h)
theorem rn_43_F {d : Nat} {g : xG} {m : Nat} {S : xMS} (hM : xMod g m) (hSC : xSC g) {ln p : Nat} {ch : Nat → Nat} (hl : S 0 22 = nI ln) (hln : ln ≤ 60) (hch : ∀ j, j < ln → S 12 j = nI (ch j) ∧ ch j < 65536) (hp : p ≤ ln) {e o : Option Nat} (h26 : S 0 26 = effV e) (h27 : S 0 27 = ofV o) (h11 : S 0 11 = nI 0) (h : hIn ln ch p 48 57 = false) : XW M_X6_readRule (d + 6) 43 [(0, .ref m)] [] (xWith g m (rdS S false p)) (xMR g m S ln (rSc ln ch p e o)) := by
  unfold rSc
  rw [if_neg (Bool.eq_false_iff.mp h)]
  refine xw_aload_n (pc := 43) dX6_readRule_43 0 rfl ?_
  refine xw_aload_n (pc := 44) dX6_readRule_44 0 rfl ?_
  refine xw_callV (pc := 45) (xr_V (as := []) ok_X6_digit rfl (by decide) q2690 q2692 qs85 (by rw [xtag_with, hM.1]; rfl) (by rw [xtag_with, hM.1]; rfl) dX6_readRule_45 rfl rfl (Nat.le_of_ble_eq_true rfl)) (SP_X6_digit_F (w := false) hM hl hln hch hp h) ?_
  refine xm_putI (pc := 48) hM fd_X6_297 (xfin_of (by decide) (by decide +kernel)) dX6_readRule_48 ?_
  rw [rdS_m (Or.inr ⟨by decide, by decide⟩)]
  exact (rw_51 (S := (mset S 0 28 (nI 0))) hM hSC (mAl.l (mAl.st (j := 28) (v := nI 0) mAl.rf (by decide)) hl) hln (mAl.c (mAl.st (j := 28) (v := nI 0) mAl.rf (by decide)) hch) hp).mono (fun _ _ h9 _ => h9.r (mAl.st (j := 28) (v := nI 0) mAl.rf (by decide)) hp)
theorem rn_43_T {d : Nat} {g : xG} {m : Nat} {S : xMS} (hM : xMod g m) (hSC : xSC g) {ln p : Nat} {ch : Nat → Nat} (hl : S 0 22 = nI ln) (hln : ln ≤ 60) (hch : ∀ j, j < ln → S 12 j = nI (ch j) ∧ ch j < 65536) (hp : p ≤ ln) {e o : Option Nat} (h26 : S 0 26 = effV e) (h27 : S 0 27 = ofV o) (h11 : S 0 11 = nI 0) (h : hIn ln ch p 48 57 = true) : XW M_X6_readRule (d + 6) 43 [(0, .ref m)] [] (xWith g m (rdS S false p)) (xMR g m S ln (rSc ln ch p e o)) := by
  unfold rSc
  rw [if_pos h]
  have hpn := (of_decide_eq_true h).1
  refine xw_aload_n (pc := 43) dX6_readRule_43 0 rfl ?_
  refine xw_aload_n (pc := 44) dX6_readRule_44 0 rfl ?_
  refine xw_callV (pc := 45) (xr_V (as := []) ok_X6_digit rfl (by decide) q2690 q2692 qs85 (by rw [xtag_with, hM.1]; rfl) (by rw [xtag_with, hM.1]; rfl) dX6_readRule_45 rfl rfl (Nat.le_of_ble_eq_true rfl)) (SP_X6_digit_T (w := false) hM hl hln hch hp h) ?_
  refine xm_putI (pc := 48) hM fd_X6_297 (xfin_of (by decide) (by decide +kernel)) dX6_readRule_48 ?_
  rw [rdS_m (Or.inr ⟨by decide, by decide⟩)]
  exact (rn_51 (S := (mset S 0 28 (nI (ch p - 48)))) hM hSC (mAl.l (mAl.st (j := 28) (v := nI (ch p - 48)) mAl.rf (by decide)) hl) hln (mAl.c (mAl.st (j := 28) (v := nI (ch p - 48)) mAl.rf (by decide)) hch) (by omega) ⟨h26, h27, rfl, h11, fun j hj => absurd hj (Nat.not_lt_zero j)⟩).mono (fun _ _ h9 _ => h9.al (mAl.st (j := 28) (v := nI (ch p - 48)) mAl.rf (by decide)))
theorem rn_43 {d : Nat} {g : xG} {m : Nat} {S : xMS} (hM : xMod g m) (hSC : xSC g) {ln p : Nat} {ch : Nat → Nat} (hl : S 0 22 = nI ln) (hln : ln ≤ 60) (hch : ∀ j, j < ln → S 12 j = nI (ch j) ∧ ch j < 65536) (hp : p ≤ ln) {e o : Option Nat} (h26 : S 0 26 = effV e) (h27 : S 0 27 = ofV o) (h11 : S 0 11 = nI 0) : XW M_X6_readRule (d + 6) 43 [(0, .ref m)] [] (xWith g m (rdS S false p)) (xMR g m S ln (rSc ln ch p e o)) := by
  by_cases h : hIn ln ch p 48 57 = true
  · exact rn_43_T hM hSC hl hln hch hp h26 h27 h11 h
  · exact rn_43_F hM hSC hl hln hch hp h26 h27 h11 (Bool.eq_false_iff.mpr h)
