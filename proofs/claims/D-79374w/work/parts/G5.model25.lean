/-! MODEL 25: the reference's floats -/
set_option maxRecDepth 100000
/-- a burden, rule by rule -/
def brF (P : Nat → Bool) (f : Nat → Int32) : Nat → UInt32
  | 0 => FP.fconst1
  | r + 1 => if P r = true then FP.fdiv (FP.fmul (brF P f r) (FP.i2f (f r))) 1120403456 else brF P f r
def brV (P : Nat → Bool) (f : Nat → Int32) (rr : Nat) : UInt32 := if Op.cmpValue (FP.fcmp (brF P f rr) 1232348160) .l ≤ 0 then brF P f rr else 1232348160
def brOk (f : Nat → Int32) (rr : Nat) : Prop := ∀ r, r < rr → ∃ k, k ≤ 1000 ∧ f r = nI k
section BR
variable {P : Nat → Bool} {f : Nat → Int32} {rr : Nat}
theorem br_mulB (hf : brOk f rr) (hr : rr ≤ 16) {r : Nat} (h : r < rr) (hB : fB (127 + 7 * r) (brF P f r)) : fB (139 + 7 * r) (FP.fmul (brF P f r) (FP.i2f (f r))) := by
  obtain ⟨k, hk, e⟩ := hf r h
  rw [e]
  exact (fB_mul hB (fB_i2f hk) (by omega) (by decide) (by omega) (by decide) (by omega) (by omega)).mono (by omega)
theorem br_B (hf : brOk f rr) (hr : rr ≤ 16) : ∀ r, r ≤ rr → fB (127 + 7 * r) (brF P f r)
  | 0, _ => by
    show fB (127 + 7 * 0) FP.fconst1
    unfold fB
    decide
  | r + 1, h => by
    have hB := br_B hf hr r (by omega)
    unfold brF
    split
    · exact (fB_div (br_mulB hf hr (by omega) hB) (by omega) (by omega)).mono (by omega)
    · exact hB.mono (by omega)
theorem br_mul (hf : brOk f rr) (hr : rr ≤ 16) {r : Nat} (h : r < rr) : vf_n32 (FP.fmul (brF P f r) (FP.i2f (f r))) := (br_mulB hf hr h (br_B hf hr r (by omega))).n32
theorem br_div (hf : brOk f rr) (hr : rr ≤ 16) {r : Nat} (h : r < rr) : vf_n32 (FP.fdiv (FP.fmul (brF P f r) (FP.i2f (f r))) 1120403456) := (fB_div (br_mulB hf hr h (br_B hf hr r (by omega))) (by omega) (by omega)).n32
theorem brV_B (hf : brOk f rr) (hr : rr ≤ 16) : fB 239 (brV P f rr) := by
  unfold brV
  split
  · exact (br_B hf hr rr (Nat.le_refl _)).mono (by omega)
  · unfold fB
    decide
theorem brV_100 (hf : brOk f rr) (hr : rr ≤ 16) : vf_n32 (FP.fmul (brV P f rr) 1120403456) := (fB_mul (brV_B hf hr) (show fB 133 1120403456 by unfold fB; decide) (by decide) (by decide) (by decide) (by decide) (by decide) (by decide)).n32
theorem brV_Z (hf : brOk f rr) (hr : rr ≤ 16) : fZ (brV P f rr) := (brV_B hf hr).1
end BR
/-- a work's burden -/
def brW (s : Nat → Int32) (wo : Int32) (rr k : Nat) : UInt32 := brV (hld (isPa s) rr (cov s wo (aN s (343 + 4 * k)) (s (343 + 4 * k + 1)) (s (343 + 4 * k + 2)))) (fun r => s (23 + 20 * r + 6)) rr
/-- row's first k places hold v -/
def kpS (S : xMS) (row : Nat) (v : Nat → UInt32) (k : Nat) : xMS := fun p j => if p = 10 ∧ 12 * row ≤ j ∧ j < 12 * row + k then (v (j - 12 * row)).toInt32 else S p j
theorem kpS_0 {S : xMS} {row : Nat} {v : Nat → UInt32} : kpS S row v 0 = S := by
  funext p j
  exact if_neg (fun h => by omega)
theorem kpS_q {S : xMS} {row k p : Nat} {v : Nat → UInt32} (h : p ≠ 10) : kpS S row v k p = S p := by
  funext j
  exact if_neg (fun h9 => h h9.1)
theorem kpS_s {S : xMS} {row k : Nat} {v : Nat → UInt32} : mset (kpS S row v k) 10 (12 * row + k) (v k).toInt32 = kpS S row v (k + 1) := by
  funext p j
  unfold mset kpS
  by_cases h : p = 10 ∧ j = 12 * row + k
  · obtain ⟨rfl, rfl⟩ := h
    rw [if_pos ⟨rfl, rfl⟩, if_pos ⟨rfl, by omega, by omega⟩, show 12 * row + k - 12 * row = k from by omega]
  · rw [if_neg h]
    by_cases h2 : p = 10 ∧ 12 * row ≤ j ∧ j < 12 * row + k
    · rw [if_pos h2, if_pos ⟨h2.1, h2.2.1, by omega⟩]
    · rw [if_neg h2, if_neg (fun h3 => by
        have h4 : j ≠ 12 * row + k := fun e => h ⟨h3.1, e⟩
        exact h2 ⟨h3.1, h3.2.1, by omega⟩)]
theorem lkEq_kp {S T : xMS} {row k : Nat} {v : Nat → UInt32} (h : lkEq (kpS S row v k) T) : lkEq (kpS S row v (k + 1)) (mset T 10 (12 * row + k) (v k).toInt32) := fun p h6 h7 => by
  rw [← kpS_s]
  funext j
  unfold mset
  split
  · rfl
  · rw [h p h6 h7]
/-- a row's float, scaled -/
def scV (v : UInt32) (k : Nat) : UInt32 := if v = 2143289344 ∨ (v = 2139095040 ∧ k = 0) then 2143289344 else FP.fdiv (FP.fmul v (FP.i2f (nI k))) 1120403456
def fOKu (v : UInt32) : Prop := fZ v ∨ v = 2143289344
theorem scV_ok {v : UInt32} {k : Nat} (h : fOKu v) (hk : k ≤ 1000) : fOKu (scV v k) := by
  unfold scV
  by_cases h1 : v = 2143289344 ∨ (v = 2139095040 ∧ k = 0)
  · rw [if_pos h1]; exact Or.inr rfl
  · rw [if_neg h1]
    rcases h with h | h
    · exact Or.inl (fZ_div (fZ_mul h hk (fun h9 => h1 (Or.inr h9))))
    · exact absurd (Or.inl h) h1
theorem fOKu.nn {v : UInt32} (h : fOKu v) (h2 : v ≠ 2143289344) : fZ v := by
  rcases h with h | h
  · exact h
  · exact absurd h h2
/-- how many of a row's floats are above 1 -/
def abF (v : Nat → UInt32) : Nat → Nat
  | 0 => 0
  | k + 1 => if Op.cmpValue (FP.fcmp (v k) FP.fconst1) .l ≤ 0 then abF v k else abF v k + 1
theorem abF_le {v : Nat → UInt32} : ∀ k, abF v k ≤ k
  | 0 => Nat.le_refl _
  | k + 1 => by
    have := abF_le (v := v) k
    unfold abF
    split <;> omega
/-- a sum of floats as a double; NaN where one is met -/
def toF (v : Nat → UInt32) : Nat → Nat → UInt64 → UInt64
  | 0, _, s => s
  | j + 1, k, s => if v k = 2143289344 then 9221120237041090560 else toF v j (k + 1) (FP.dadd s (FP.f2d (v k)))
theorem cv_nan : Op.cmpValue (FP.fcmp 2143289344 2143289344) .l = -1 := by rw [cmp_nan]; rfl
theorem cv_self {v : UInt32} (h : fZ v) : Op.cmpValue (FP.fcmp v v) .l = 0 := by rw [cmp_self h]; rfl
theorem cv_inf0 {v : UInt32} (h : fZ v) (h2 : v ≠ 2139095040) : Op.cmpValue (FP.fcmp v 2139095040) .l = -1 := by rw [cmp_inf0 h h2]; rfl
theorem cv_inf1 : Op.cmpValue (FP.fcmp 2139095040 2139095040) .l = 0 := by rw [cmp_inf1]; rfl
theorem cv_max1 : Op.cmpValue (FP.fcmp 2139095040 2139095039) .l = 1 := by rw [cmp_max1]; rfl
theorem cv_max0 {v : UInt32} (h : fZ v) (h2 : v ≠ 2139095040) : Op.cmpValue (FP.fcmp v 2139095039) .l ≤ 0 := by
  have h3 := cmp_max0 h h2
  cases hc : FP.fcmp v 2139095039 with
  | none => decide
  | some o =>
    cases o with
    | lt => decide
    | eq => decide
    | gt => exact absurd hc h3
theorem cv_selfo {v : UInt32} (h : fOKu v) : Op.cmpValue (FP.fcmp v v) .l = 0 ↔ v ≠ 2143289344 := by
  constructor
  · intro h1 h2
    subst h2
    rw [cv_nan] at h1
    exact absurd h1 (by decide)
  · intro h1
    exact cv_self (h.nn h1)

theorem SP_J26_isNaN {d : Nat} {g : xG} {v : UInt32} (hv : fOKu v) : XM M_J26_isNaN d [.float v] g (xOne (some (.int (bI (decide (v = 2143289344))))) g) := by
  refine xm_ofF pf_isNaN rfl (Nat.le_of_ble_eq_true rfl) ?_
  show XW _ _ 0 [(0, _)] [] _ _
  refine xw_fload_n (pc := 0) dJ26_isNaN_0 0 rfl ?_
  refine xw_fload_n (pc := 1) dJ26_isNaN_1 0 rfl ?_
  refine xw_fcmp (pc := 2) dJ26_isNaN_2 ?_
  refine xw_if_eq (pc := 3) 10 dJ26_isNaN_3 rfl (fun hb3 => ?_) (fun hb3 => ?_)
  · refine xw_iconst (v := nI 0) (pc := 10) dJ26_isNaN_10 rfl ?_
    refine xw_iret (pc := 11) .boolean dJ26_isNaN_11 rfl ?_ 
    have h9 := cv_selfo hv
    first
    | exact ⟨by rw [decide_eq_true (Decidable.byContradiction (fun h => hb3 (h9.mpr h)))]; rfl, rfl⟩
    | exact ⟨by rw [decide_eq_false (h9.mp hb3)]; rfl, rfl⟩
  · refine xw_iconst (v := nI 1) (pc := 6) dJ26_isNaN_6 rfl ?_
    refine xw_goto (pc := 7) 11 dJ26_isNaN_7 rfl ?_
    refine xw_iret (pc := 11) .boolean dJ26_isNaN_11 rfl ?_ 
    have h9 := cv_selfo hv
    first
    | exact ⟨by rw [decide_eq_true (Decidable.byContradiction (fun h => hb3 (h9.mpr h)))]; rfl, rfl⟩
    | exact ⟨by rw [decide_eq_false (h9.mp hb3)]; rfl, rfl⟩

theorem SP_J26_floatToIntBits {d : Nat} {g : xG} {v : UInt32} (hv : fOKu v) : XM M_J26_floatToIntBits (d + 1) [.float v] g (xOne (some (.int v.toInt32)) g) := by
  refine xm_ofF pf_bits rfl (Nat.le_of_ble_eq_true rfl) ?_
  show XW _ _ 0 [(0, _)] [] _ _
  refine xw_fload_n (pc := 0) dJ26_floatToIntBits_0 0 rfl ?_
  refine xw_callV (pc := 1) (xr_S (as := [_]) ok_J26_isNaN rfl (by decide) q1787 q1788 dJ26_floatToIntBits_1 rfl rfl (Nat.le_of_ble_eq_true rfl)) (SP_J26_isNaN hv) ?_
  refine xw_if_ne (pc := 4) 12 dJ26_floatToIntBits_4 rfl (fun hb4 => ?_) (fun hb4 => ?_)
  · replace hb4 := bI_n0.mp hb4
    refine xw_ldc (v := nI 2143289344) (pc := 12) dJ26_floatToIntBits_12 q1793 ?_
    refine xw_iret (pc := 14) .int dJ26_floatToIntBits_14 rfl ?_ 
    first
    | (have h9 : v = 2143289344 := of_decide_eq_true hb4
       subst h9
       exact ⟨rfl, rfl⟩)
    | exact ⟨rfl, rfl⟩
  · replace hb4 := bI_0.mp hb4
    refine xw_fload_n (pc := 7) dJ26_floatToIntBits_7 0 rfl ?_
    refine xw_rawBits (pc := 8) dJ26_floatToIntBits_8 q1790 (Nat.le_of_ble_eq_true rfl) ?_
    refine xw_iret (pc := 11) .int dJ26_floatToIntBits_11 rfl ?_ 
    first
    | (have h9 : v = 2143289344 := of_decide_eq_true hb4
       subst h9
       exact ⟨rfl, rfl⟩)
    | exact ⟨rfl, rfl⟩

theorem lp_X6_burdenOf {d : Nat} {g : xG} {m : Nat} {T : xMS} (hM : xMod g m) {rr : Nat} {H : Nat → Bool} {a1 a2 a3 : Int32} (hr : rr ≤ 16) (t1 : T 1 1 = nI rr) (tH : ∀ r, r < rr → T 7 r = bI (H r)) (hf : brOk (fun r => T 1 (23 + 20 * r + 6)) rr) : ∀ (j r : Nat), rr - r < j → r ≤ rr → XW M_X6_burdenOf (d + 4) 13 [(5, .int (nI r)), (4, .float (brF H (fun r => T 1 (23 + 20 * r + 6)) r)), (0, .ref m), (1, .int a1), (2, .int a2), (3, .int a3)] [] (xWith g m T) (xOne (some (.float (brV H (fun r => T 1 (23 + 20 * r + 6)) rr))) (xWith g m T)) := by
  intro j
  induction j with
  | zero => intro r h; omega
  | succ j ih =>
  intro r hj hrr
  refine xw_iload (pc := 13) dX6_burdenOf_13 0 rfl ?_
  refine xw_aload_n (pc := 15) dX6_burdenOf_15 2 rfl ?_
  refine xm_get (p := 1) (pc := 16) hM fd_X6_9 dX6_burdenOf_16 rfl ?_
  refine xw_iconst (v := nI 1) (pc := 19) dX6_burdenOf_19 rfl ?_
  refine xm_ialdN (v := rr) (pc := 20) hM dX6_burdenOf_20 rfl (by decide) (by exact t1) ?_
  refine xw_icmp_ge (pc := 21) 57 dX6_burdenOf_21 rfl (fun hb21 => ?_) (fun hb21 => ?_)
  · replace hb21 : rr ≤ r := (nI_leI (a := rr) (b := r) (by omega) (by omega)).mp hb21
    refine xw_fload (pc := 57) dX6_burdenOf_57 1 rfl ?_
    refine xw_ldcf (pc := 59) dX6_burdenOf_59 q2577 ?_
    refine xw_fcmp (pc := 61) dX6_burdenOf_61 ?_
    refine xw_if_le (pc := 62) 70 dX6_burdenOf_62 rfl (fun hb62 => ?_) (fun hb62 => ?_)
    · refine xw_fload (pc := 70) dX6_burdenOf_70 1 rfl ?_
      refine xw_fret (pc := 72) dX6_burdenOf_72 rfl ?_
      have er : r = rr := by omega
      subst er
      first
      | exact ⟨by unfold brV; rw [if_pos hb62], rfl⟩
      | exact ⟨by unfold brV; rw [if_neg hb62], rfl⟩
    · refine xw_ldcf (pc := 65) dX6_burdenOf_65 q2577 ?_
      refine xw_goto (pc := 67) 72 dX6_burdenOf_67 rfl ?_
      refine xw_fret (pc := 72) dX6_burdenOf_72 rfl ?_
      have er : r = rr := by omega
      subst er
      first
      | exact ⟨by unfold brV; rw [if_pos hb62], rfl⟩
      | exact ⟨by unfold brV; rw [if_neg hb62], rfl⟩
  · replace hb21 : ¬ (rr ≤ r) := mt (nI_leI (a := rr) (b := r) (by omega) (by omega)).mpr hb21
    refine xw_aload_n (pc := 24) dX6_burdenOf_24 2 rfl ?_
    refine xm_get (p := 7) (pc := 25) hM fd_X6_29 dX6_burdenOf_25 rfl ?_
    refine xw_iload (pc := 28) dX6_burdenOf_28 0 rfl ?_
    refine xm_zaldB (b := H r) (pc := 30) hM dX6_burdenOf_30 rfl (by omega) (by exact tH r (by omega)) ?_
    refine xw_if_eq (pc := 31) 51 dX6_burdenOf_31 rfl (fun hb31 => ?_) (fun hb31 => ?_)
    · replace hb31 := bI_0.mp hb31
      refine xw_iinc (v := nI (r + 1)) (l' := [(5, _), (4, _), (0, _), (1, _), (2, _), (3, _)]) (pc := 51) dX6_burdenOf_51 0 rfl (nI_add _ 1) (by decide) rfl ?_
      refine xw_goto (pc := 54) 13 dX6_burdenOf_54 rfl ?_
      have h9 := ih (r + 1) (by omega) (by omega)
      first
      | (rw [show brF H (fun r => T 1 (23 + 20 * r + 6)) (r + 1) = FP.fdiv (FP.fmul (brF H (fun r => T 1 (23 + 20 * r + 6)) r) (FP.i2f ((fun r => T 1 (23 + 20 * r + 6)) r))) 1120403456 from if_pos hb31] at h9
         exact h9)
      | (rw [show brF H (fun r => T 1 (23 + 20 * r + 6)) (r + 1) = brF H (fun r => T 1 (23 + 20 * r + 6)) r from if_neg (by rw [hb31]; decide)] at h9
         exact h9)
    · replace hb31 := bI_n0.mp hb31
      refine xw_fload (pc := 34) dX6_burdenOf_34 1 rfl ?_
      refine xw_aload_n (pc := 36) dX6_burdenOf_36 2 rfl ?_
      refine xw_iload (pc := 37) dX6_burdenOf_37 0 rfl ?_
      refine xw_bipush (v := nI 6) (pc := 39) dX6_burdenOf_39 (by decide +kernel) ?_
      refine xw_callV (pc := 41) (xr_V (as := [_, _]) ok_X6_of rfl (by decide) q2396 q2398 qs53 (by rw [xtag_with, hM.1]; rfl) (by rw [xtag_with, hM.1]; rfl) dX6_burdenOf_41 rfl rfl (Nat.le_of_ble_eq_true rfl)) (SP_X6_of hM r 6 (by omega)) ?_
      refine xw_i2f (pc := 44) dX6_burdenOf_44 ?_
      refine xw_fmul (pc := 45) dX6_burdenOf_45 (by exact br_mul hf hr (show r < rr by omega)) ?_
      refine xw_ldcf (pc := 46) dX6_burdenOf_46 q2576 ?_
      refine xw_fdiv (pc := 48) dX6_burdenOf_48 (by exact br_div hf hr (show r < rr by omega)) ?_
      refine xw_fstore (l' := [(4, _), (5, _), (0, _), (1, _), (2, _), (3, _)]) (pc := 49) dX6_burdenOf_49 (by decide) rfl ?_
      refine xw_iinc (v := nI (r + 1)) (l' := [(5, _), (4, _), (0, _), (1, _), (2, _), (3, _)]) (pc := 51) dX6_burdenOf_51 1 rfl (nI_add _ 1) (by decide) rfl ?_
      refine xw_goto (pc := 54) 13 dX6_burdenOf_54 rfl ?_
      have h9 := ih (r + 1) (by omega) (by omega)
      first
      | (rw [show brF H (fun r => T 1 (23 + 20 * r + 6)) (r + 1) = FP.fdiv (FP.fmul (brF H (fun r => T 1 (23 + 20 * r + 6)) r) (FP.i2f ((fun r => T 1 (23 + 20 * r + 6)) r))) 1120403456 from if_pos hb31] at h9
         exact h9)
      | (rw [show brF H (fun r => T 1 (23 + 20 * r + 6)) (r + 1) = brF H (fun r => T 1 (23 + 20 * r + 6)) r from if_neg (by rw [hb31]; decide)] at h9
         exact h9)
theorem SP_X6_burdenOf {d : Nat} {g : xG} {m : Nat} {S : xMS} (hM : xMod g m) (n rr k : Nat) (hn : n ≤ 10) (hr : rr ≤ 16) (hk : k < n) (h1 : S 1 1 = nI rr) (hW : WFo (S 1) n) (hWr : WFr (S 1) n rr) (day feats : Int32) (C H : Nat → Bool) (hC : C = cov (S 1) (S 0 14) k day feats) (hH : H = hld (isPa (S 1)) rr C) (hf : brOk (fun r => S 1 (23 + 20 * r + 6)) rr) : XM M_X6_burdenOf (d + 4) [.ref m, .int (nI k), .int day, .int feats] (xWith g m S) (xOne (some (.float (brV H (fun r => S 1 (23 + 20 * r + 6)) rr))) (xWith g m (lookP S C H 0 rr))) := by
  have e1 : lookP S C H 0 rr 1 = S 1 := lookP_q (by decide) (by decide)
  refine xm_of (by decide +kernel) (Nat.le_of_ble_eq_true rfl) ?_
  show XW _ _ 0 [(0, _), (1, _), (2, _), (3, _)] [] _ _
  refine xw_aload_n (pc := 0) dX6_burdenOf_0 0 rfl ?_
  refine xw_iload_n (pc := 1) dX6_burdenOf_1 1 rfl ?_
  refine xw_iload_n (pc := 2) dX6_burdenOf_2 2 rfl ?_
  refine xw_iload_n (pc := 3) dX6_burdenOf_3 3 rfl ?_
  refine xw_callU (pc := 4) (xr_V (as := [_, _, _]) ok_X6_look rfl (by decide) q2519 q2521 qs69 (by rw [xtag_with, hM.1]; rfl) (by rw [xtag_with, hM.1]; rfl) dX6_burdenOf_4 rfl rfl (Nat.le_of_ble_eq_true rfl)) (SP_X6_look hM n rr k hn hr hk h1 hW hWr day feats C H hC hH) ?_
  refine xw_fconst1 (pc := 7) dX6_burdenOf_7 ?_
  refine xw_fstore (l' := [(4, _), (0, _), (1, _), (2, _), (3, _)]) (pc := 8) dX6_burdenOf_8 (by decide) rfl ?_
  refine xw_iconst (v := nI 0) (pc := 10) dX6_burdenOf_10 rfl ?_
  refine xw_istore (l' := [(5, _), (4, _), (0, _), (1, _), (2, _), (3, _)]) (pc := 11) dX6_burdenOf_11 (by decide) rfl ?_
  have h9 := lp_X6_burdenOf (d := d) (T := lookP S C H 0 rr) (H := H) (a1 := nI k) (a2 := day) (a3 := feats) hM hr (by rw [e1]; exact h1) (fun r hrr => lookP_7 (Nat.zero_le r) hrr) (by rw [e1]; exact hf) (rr + 1) 0 (by omega) (Nat.zero_le _)
  rw [e1] at h9
  exact h9
theorem SP_X6_burden_W {d : Nat} {g : xG} {m : Nat} {S : xMS} (hM : xMod g m) (a b c : Int32) (w : Nat) (hw0 : 0 < w) (hw2 : w ≤ 2) (hw : wrongC S a b c = w) : XM M_X6_burden (d + 5) [.ref m, .int a, .int b, .int c] (xWith g m S) (xOne (some (.float FP.fconst0)) (xWith g m (mset S 0 6 (nI w)))) := by
  refine xm_of (by decide +kernel) (Nat.le_of_ble_eq_true rfl) ?_
  show XW _ _ 0 [(0, _), (1, _), (2, _), (3, _)] [] _ _
  refine xw_aload_n (pc := 0) dX6_burden_0 0 rfl ?_
  refine xw_aload_n (pc := 1) dX6_burden_1 0 rfl ?_
  refine xw_iload_n (pc := 2) dX6_burden_2 1 rfl ?_
  refine xw_iload_n (pc := 3) dX6_burden_3 2 rfl ?_
  refine xw_iload_n (pc := 4) dX6_burden_4 3 rfl ?_
  refine xw_callV (pc := 5) (xr_V (as := [_, _, _]) ok_X6_wrongCase rfl (by decide) q2500 q2502 qs67 (by rw [xtag_with, hM.1]; rfl) (by rw [xtag_with, hM.1]; rfl) dX6_burden_5 rfl rfl (Nat.le_of_ble_eq_true rfl)) (SP_X6_wrongCaseW hM w hw) ?_
  refine xm_putI (pc := 8) hM fd_X6_62 (xfin_of (by decide) (by decide +kernel)) dX6_burden_8 ?_
  refine xw_aload_n (pc := 11) dX6_burden_11 0 rfl ?_
  refine xm_getN (k := w) (pc := 12) hM fd_X6_62 dX6_burden_12 (by first | rfl | (simp [mset, mcpy]; done)) ?_
  refine xw_if_le (pc := 15) 22 dX6_burden_15 rfl (fun hb15 => ?_) (fun hb15 => ?_)
  · exfalso
    replace hb15 : w ≤ 0 := (nI_leI (a := w) (b := 0) (by omega) (by omega)).mp hb15
    omega
  replace hb15 : ¬ (w ≤ 0) := mt (nI_leI (a := w) (b := 0) (by omega) (by omega)).mpr hb15
  refine xw_fconst0 (pc := 18) dX6_burden_18 ?_
  refine xw_goto (pc := 19) 29 dX6_burden_19 rfl ?_
  refine xw_fret (pc := 29) dX6_burden_29 rfl ?_
  exact ⟨rfl, rfl⟩
theorem SP_X6_burden {d : Nat} {g : xG} {m : Nat} {S : xMS} (hM : xMod g m) (n rr k : Nat) (hn : n ≤ 10) (h0 : S 1 0 = nI n) (hr : rr ≤ 16) (hk : k < n) (h1 : S 1 1 = nI rr) (hW : WFo (S 1) n) (hWr : WFr (S 1) n rr) (day feats : Int32) (hcs : isCs day feats = true) (C H : Nat → Bool) (hC : C = cov (S 1) (S 0 14) k day feats) (hH : H = hld (isPa (S 1)) rr C) (hf : brOk (fun r => S 1 (23 + 20 * r + 6)) rr) : XM M_X6_burden (d + 5) [.ref m, .int (nI k), .int day, .int feats] (xWith g m S) (xOne (some (.float (brV H (fun r => S 1 (23 + 20 * r + 6)) rr))) (xWith g m (lookP (mset S 0 6 (nI 0)) C H 0 rr))) := by
  have e1 : (mset S 0 6 (nI 0)) 1 = S 1 := mset_q (by decide)
  refine xm_of (by decide +kernel) (Nat.le_of_ble_eq_true rfl) ?_
  show XW _ _ 0 [(0, _), (1, _), (2, _), (3, _)] [] _ _
  refine xw_aload_n (pc := 0) dX6_burden_0 0 rfl ?_
  refine xw_aload_n (pc := 1) dX6_burden_1 0 rfl ?_
  refine xw_iload_n (pc := 2) dX6_burden_2 1 rfl ?_
  refine xw_iload_n (pc := 3) dX6_burden_3 2 rfl ?_
  refine xw_iload_n (pc := 4) dX6_burden_4 3 rfl ?_
  refine xw_callV (pc := 5) (xr_V (as := [_, _, _]) ok_X6_wrongCase rfl (by decide) q2500 q2502 qs67 (by rw [xtag_with, hM.1]; rfl) (by rw [xtag_with, hM.1]; rfl) dX6_burden_5 rfl rfl (Nat.le_of_ble_eq_true rfl)) (SP_X6_wrongCaseW hM 0 (wrongC_0 hn h0 hk hcs)) ?_
  refine xm_putI (pc := 8) hM fd_X6_62 (xfin_of (by decide) (by decide +kernel)) dX6_burden_8 ?_
  refine xw_aload_n (pc := 11) dX6_burden_11 0 rfl ?_
  refine xm_getN (k := 0) (pc := 12) hM fd_X6_62 dX6_burden_12 (by first | rfl | (simp [mset, mcpy]; done)) ?_
  refine xw_if_le (pc := 15) 22 dX6_burden_15 rfl (fun _ => ?_) (fun hb => absurd hb (by decide))
  refine xw_aload_n (pc := 22) dX6_burden_22 0 rfl ?_
  refine xw_iload_n (pc := 23) dX6_burden_23 1 rfl ?_
  refine xw_iload_n (pc := 24) dX6_burden_24 2 rfl ?_
  refine xw_iload_n (pc := 25) dX6_burden_25 3 rfl ?_
  refine xw_callV (pc := 26) (xr_V (as := [_, _, _]) ok_X6_burdenOf rfl (by decide) q2572 q2574 qs75 (by rw [xtag_with, hM.1]; rfl) (by rw [xtag_with, hM.1]; rfl) dX6_burden_26 rfl rfl (Nat.le_of_ble_eq_true rfl)) (SP_X6_burdenOf hM n rr k hn hr hk (by rw [e1]; exact h1) (by rw [e1]; exact hW) (by rw [e1]; exact hWr) day feats C H (by rw [e1]; exact hC) (by rw [e1]; exact hH) (by rw [e1]; exact hf)) ?_
  rw [e1]
  refine xw_fret (pc := 29) dX6_burden_29 rfl ?_
  exact ⟨rfl, rfl⟩
theorem SP_X6_percent_W {d : Nat} {g : xG} {m : Nat} {S : xMS} (hM : xMod g m) (a b c : Int32) (w : Nat) (hw0 : 0 < w) (hw2 : w ≤ 2) (hw : wrongC S a b c = w) : XM M_X6_percent (d + 5) [.ref m, .int a, .int b, .int c] (xWith g m S) (xOne (some (.int (nI 0))) (xWith g m (mset S 0 6 (nI w)))) := by
  refine xm_of (by decide +kernel) (Nat.le_of_ble_eq_true rfl) ?_
  show XW _ _ 0 [(0, _), (1, _), (2, _), (3, _)] [] _ _
  refine xw_aload_n (pc := 0) dX6_percent_0 0 rfl ?_
  refine xw_aload_n (pc := 1) dX6_percent_1 0 rfl ?_
  refine xw_iload_n (pc := 2) dX6_percent_2 1 rfl ?_
  refine xw_iload_n (pc := 3) dX6_percent_3 2 rfl ?_
  refine xw_iload_n (pc := 4) dX6_percent_4 3 rfl ?_
  refine xw_callV (pc := 5) (xr_V (as := [_, _, _]) ok_X6_wrongCase rfl (by decide) q2500 q2502 qs67 (by rw [xtag_with, hM.1]; rfl) (by rw [xtag_with, hM.1]; rfl) dX6_percent_5 rfl rfl (Nat.le_of_ble_eq_true rfl)) (SP_X6_wrongCaseW hM w hw) ?_
  refine xm_putI (pc := 8) hM fd_X6_62 (xfin_of (by decide) (by decide +kernel)) dX6_percent_8 ?_
  refine xw_aload_n (pc := 11) dX6_percent_11 0 rfl ?_
  refine xm_getN (k := w) (pc := 12) hM fd_X6_62 dX6_percent_12 (by first | rfl | (simp [mset, mcpy]; done)) ?_
  refine xw_if_le (pc := 15) 22 dX6_percent_15 rfl (fun hb15 => ?_) (fun hb15 => ?_)
  · exfalso
    replace hb15 : w ≤ 0 := (nI_leI (a := w) (b := 0) (by omega) (by omega)).mp hb15
    omega
  replace hb15 : ¬ (w ≤ 0) := mt (nI_leI (a := w) (b := 0) (by omega) (by omega)).mpr hb15
  refine xw_iconst (v := nI 0) (pc := 18) dX6_percent_18 rfl ?_
  refine xw_goto (pc := 19) 33 dX6_percent_19 rfl ?_
  refine xw_iret (pc := 33) .int dX6_percent_33 rfl ?_ 
  exact ⟨rfl, rfl⟩
theorem SP_X6_percent {d : Nat} {g : xG} {m : Nat} {S : xMS} (hM : xMod g m) (n rr k : Nat) (hn : n ≤ 10) (h0 : S 1 0 = nI n) (hr : rr ≤ 16) (hk : k < n) (h1 : S 1 1 = nI rr) (hW : WFo (S 1) n) (hWr : WFr (S 1) n rr) (day feats : Int32) (hcs : isCs day feats = true) (C H : Nat → Bool) (hC : C = cov (S 1) (S 0 14) k day feats) (hH : H = hld (isPa (S 1)) rr C) (hf : brOk (fun r => S 1 (23 + 20 * r + 6)) rr) : XM M_X6_percent (d + 5) [.ref m, .int (nI k), .int day, .int feats] (xWith g m S) (xOne (some (.int (FP.f2i (FP.fmul (brV H (fun r => S 1 (23 + 20 * r + 6)) rr) 1120403456)))) (xWith g m (lookP (mset S 0 6 (nI 0)) C H 0 rr))) := by
  have e1 : (mset S 0 6 (nI 0)) 1 = S 1 := mset_q (by decide)
  refine xm_of (by decide +kernel) (Nat.le_of_ble_eq_true rfl) ?_
  show XW _ _ 0 [(0, _), (1, _), (2, _), (3, _)] [] _ _
  refine xw_aload_n (pc := 0) dX6_percent_0 0 rfl ?_
  refine xw_aload_n (pc := 1) dX6_percent_1 0 rfl ?_
  refine xw_iload_n (pc := 2) dX6_percent_2 1 rfl ?_
  refine xw_iload_n (pc := 3) dX6_percent_3 2 rfl ?_
  refine xw_iload_n (pc := 4) dX6_percent_4 3 rfl ?_
  refine xw_callV (pc := 5) (xr_V (as := [_, _, _]) ok_X6_wrongCase rfl (by decide) q2500 q2502 qs67 (by rw [xtag_with, hM.1]; rfl) (by rw [xtag_with, hM.1]; rfl) dX6_percent_5 rfl rfl (Nat.le_of_ble_eq_true rfl)) (SP_X6_wrongCaseW hM 0 (wrongC_0 hn h0 hk hcs)) ?_
  refine xm_putI (pc := 8) hM fd_X6_62 (xfin_of (by decide) (by decide +kernel)) dX6_percent_8 ?_
  refine xw_aload_n (pc := 11) dX6_percent_11 0 rfl ?_
  refine xm_getN (k := 0) (pc := 12) hM fd_X6_62 dX6_percent_12 (by first | rfl | (simp [mset, mcpy]; done)) ?_
  refine xw_if_le (pc := 15) 22 dX6_percent_15 rfl (fun _ => ?_) (fun hb => absurd hb (by decide))
  refine xw_aload_n (pc := 22) dX6_percent_22 0 rfl ?_
  refine xw_iload_n (pc := 23) dX6_percent_23 1 rfl ?_
  refine xw_iload_n (pc := 24) dX6_percent_24 2 rfl ?_
  refine xw_iload_n (pc := 25) dX6_percent_25 3 rfl ?_
  refine xw_callV (pc := 26) (xr_V (as := [_, _, _]) ok_X6_burdenOf rfl (by decide) q2572 q2574 qs75 (by rw [xtag_with, hM.1]; rfl) (by rw [xtag_with, hM.1]; rfl) dX6_percent_26 rfl rfl (Nat.le_of_ble_eq_true rfl)) (SP_X6_burdenOf hM n rr k hn hr hk (by rw [e1]; exact h1) (by rw [e1]; exact hW) (by rw [e1]; exact hWr) day feats C H (by rw [e1]; exact hC) (by rw [e1]; exact hH) (by rw [e1]; exact hf)) ?_
  rw [e1]
  refine xw_ldcf (pc := 29) dX6_percent_29 q2576 ?_
  refine xw_fmul (pc := 31) dX6_percent_31 (by exact brV_100 hf hr) ?_
  refine xw_f2i (pc := 32) dX6_percent_32 ?_
  refine xw_iret (pc := 33) .int dX6_percent_33 rfl ?_ 
  exact ⟨rfl, rfl⟩
theorem SP_X6_keepRow_F {d : Nat} {g : xG} {m : Nat} {S : xMS} (hM : xMod g m) (v : Int32) (hv : inR v (nI 0) (nI 2) = false) : XM M_X6_keepRow (d + 5) [.ref m, .int v] (xWith g m S) (xOne (some (.int (nI 0))) (xWith g m (mset S 0 6 (nI 1)))) := by
  refine xm_of (by decide +kernel) (Nat.le_of_ble_eq_true rfl) ?_
  show XW _ _ 0 [(0, _), (1, _)] [] _ _
  refine xw_aload_n (pc := 0) dX6_keepRow_0 0 rfl ?_
  refine xw_iload_n (pc := 1) dX6_keepRow_1 1 rfl ?_
  refine xw_callV (pc := 2) (xr_S (as := [_]) ok_X6_isRow rfl (by decide) q2649 q2650 dX6_keepRow_2 rfl rfl (Nat.le_of_ble_eq_true rfl)) ((show XM M_X6_isRow (d + 4) [.int v] (xWith g m S) (xOne (some (.int (bI false))) (xWith g m S)) from by have h9 := SP_X6_isRow (d := d + 3) (g := (xWith g m S)) (v := v); rw [hv] at h9; exact h9)) ?_
  refine xw_if_eq (pc := 5) 12 dX6_keepRow_5 rfl (fun _ => ?_) (fun hb => absurd hb (by decide))
  refine xw_iconst (v := nI 1) (pc := 12) dX6_keepRow_12 rfl ?_
  refine xm_putI (pc := 13) hM fd_X6_62 (xfin_of (by decide) (by decide +kernel)) dX6_keepRow_13 ?_
  refine xw_aload_n (pc := 16) dX6_keepRow_16 0 rfl ?_
  refine xm_getN (k := 1) (pc := 17) hM fd_X6_62 dX6_keepRow_17 (by first | rfl | (simp [mset, mcpy]; done)) ?_
  refine xw_if_le (pc := 20) 25 dX6_keepRow_20 rfl (fun hb => absurd hb (by decide)) (fun _ => ?_)
  refine xw_iconst (v := nI 0) (pc := 23) dX6_keepRow_23 rfl ?_
  refine xw_iret (pc := 24) .int dX6_keepRow_24 rfl ?_ 
  exact ⟨rfl, rfl⟩
theorem lp_X6_keepRow {d : Nat} {g : xG} {m : Nat} {S : xMS} (hM : xMod g m) (n rr w : Nat) (hn : n ≤ 10) (hr : rr ≤ 16) (hw : w ≤ 12) (h1 : S 1 1 = nI rr) (h2 : S 1 2 = nI w) (hW : WFo (S 1) n) (hWr : WFr (S 1) n rr) (hWw : WFw (S 1) n w) (hf : brOk (fun r => S 1 (23 + 20 * r + 6)) rr) {row : Nat} (hrow : row < 3) (h11 : S 11 row = nI w) : ∀ (j k : Nat) (T : xMS), w - k < j → k ≤ w → lkEq (kpS S row (brW (S 1) (S 0 14) rr) k) T → XW M_X6_keepRow (d + 5) 39 [(2, .int (nI k)), (0, .ref m), (1, .int (nI row))] [] (xWith g m T) (xLk g m (kpS S row (brW (S 1) (S 0 14) rr) w) (nI w)) := by
  intro j
  induction j with
  | zero => intro k T h; omega
  | succ j ih =>
  intro k T hj hk hT
  have e1 : T 1 = S 1 := (hT 1 (by decide) (by decide)).trans (kpS_q (by decide))
  have e0 : T 0 = S 0 := (hT 0 (by decide) (by decide)).trans (kpS_q (by decide))
  have e11 : T 11 = S 11 := (hT 11 (by decide) (by decide)).trans (kpS_q (by decide))
  refine xw_iload_n (pc := 39) dX6_keepRow_39 0 rfl ?_
  refine xw_aload_n (pc := 40) dX6_keepRow_40 1 rfl ?_
  refine xm_get (p := 1) (pc := 41) hM fd_X6_9 dX6_keepRow_41 rfl ?_
  refine xw_iconst (v := nI 2) (pc := 44) dX6_keepRow_44 rfl ?_
  refine xm_ialdN (v := w) (pc := 45) hM dX6_keepRow_45 rfl (by decide) (by rw [e1]; exact h2) ?_
  refine xw_icmp_ge (pc := 46) 100 dX6_keepRow_46 rfl (fun hb46 => ?_) (fun hb46 => ?_)
  · replace hb46 : w ≤ k := (nI_leI (a := w) (b := k) (by omega) (by omega)).mp hb46
    refine xw_aload_n (pc := 100) dX6_keepRow_100 1 rfl ?_
    refine xm_get (p := 11) (pc := 101) hM fd_X6_49 dX6_keepRow_101 rfl ?_
    refine xw_iload_n (pc := 104) dX6_keepRow_104 2 rfl ?_
    refine xm_ialdN (v := w) (pc := 105) hM dX6_keepRow_105 rfl (by omega) (by rw [e11]; exact h11) ?_
    refine xw_iret (pc := 106) .int dX6_keepRow_106 rfl ?_ 
    have ek : k = w := by omega
    subst ek
    exact ⟨rfl, T, hT, rfl⟩
  · replace hb46 : ¬ (w ≤ k) := mt (nI_leI (a := w) (b := k) (by omega) (by omega)).mpr hb46
    have hkl : k < w := by omega
    refine xw_sipush (v := nI 343) (pc := 49) dX6_keepRow_49 (by decide +kernel) ?_
    refine xw_iconst (v := nI 4) (pc := 52) dX6_keepRow_52 rfl ?_
    refine xw_iload_n (pc := 53) dX6_keepRow_53 0 rfl ?_
    refine xn_imul (pc := 54) dX6_keepRow_54 ?_
    refine xn_iadd (pc := 55) dX6_keepRow_55 ?_
    refine xw_istore_n (l' := [(3, _), (2, _), (0, _), (1, _)]) (pc := 56) dX6_keepRow_56 rfl (by decide) rfl ?_
    refine xw_aload_n (pc := 57) dX6_keepRow_57 2 rfl ?_
    refine xm_get (p := 10) (pc := 58) hM fd_X6_45 dX6_keepRow_58 rfl ?_
    refine xw_bipush (v := nI 12) (pc := 61) dX6_keepRow_61 (by decide +kernel) ?_
    refine xw_iload_n (pc := 63) dX6_keepRow_63 3 rfl ?_
    refine xn_imul (pc := 64) dX6_keepRow_64 ?_
    refine xw_iload_n (pc := 65) dX6_keepRow_65 1 rfl ?_
    refine xn_iadd (pc := 66) dX6_keepRow_66 ?_
    refine xw_aload_n (pc := 67) dX6_keepRow_67 2 rfl ?_
    refine xw_aload_n (pc := 68) dX6_keepRow_68 2 rfl ?_
    refine xm_get (p := 1) (pc := 69) hM fd_X6_9 dX6_keepRow_69 rfl ?_
    refine xw_iload_n (pc := 72) dX6_keepRow_72 0 rfl ?_
    refine xm_ialdN (v := (aN (S 1) (343 + 4 * k))) (pc := 73) hM dX6_keepRow_73 rfl (by omega) (by rw [e1]; exact (hWw k (by omega)).1) ?_
    refine xw_aload_n (pc := 74) dX6_keepRow_74 2 rfl ?_
    refine xm_get (p := 1) (pc := 75) hM fd_X6_9 dX6_keepRow_75 rfl ?_
    refine xw_iload_n (pc := 78) dX6_keepRow_78 0 rfl ?_
    refine xw_iconst (v := nI 1) (pc := 79) dX6_keepRow_79 rfl ?_
    refine xn_iadd (pc := 80) dX6_keepRow_80 ?_
    refine xm_iald (pc := 81) hM dX6_keepRow_81 rfl (by omega) ?_
    refine xw_aload_n (pc := 82) dX6_keepRow_82 2 rfl ?_
    refine xm_get (p := 1) (pc := 83) hM fd_X6_9 dX6_keepRow_83 rfl ?_
    refine xw_iload_n (pc := 86) dX6_keepRow_86 0 rfl ?_
    refine xw_iconst (v := nI 2) (pc := 87) dX6_keepRow_87 rfl ?_
    refine xn_iadd (pc := 88) dX6_keepRow_88 ?_
    refine xm_iald (pc := 89) hM dX6_keepRow_89 rfl (by omega) ?_
    rw [e1]
    refine xw_callV (pc := 90) (xr_V (as := [_, _, _]) ok_X6_burdenOf rfl (by decide) q2572 q2574 qs75 (by rw [xtag_with, hM.1]; rfl) (by rw [xtag_with, hM.1]; rfl) dX6_keepRow_90 rfl rfl (Nat.le_of_ble_eq_true rfl)) (SP_X6_burdenOf hM n rr (aN (S 1) (343 + 4 * k)) hn hr (hWw k (by omega)).2 (by rw [e1]; exact h1) (by rw [e1]; exact hW) (by rw [e1]; exact hWr) (S 1 (343 + 4 * k + 1)) (S 1 (343 + 4 * k + 2)) _ _ rfl rfl (by rw [e1]; exact hf)) ?_
    refine xm_fast (pc := 93) hM dX6_keepRow_93 rfl (by omega) ?_
    refine xw_iinc (v := nI (k + 1)) (l' := [(2, _), (3, _), (0, _), (1, _)]) (pc := 94) dX6_keepRow_94 1 rfl (nI_add _ 1) (by decide) rfl ?_
    refine xw_goto (pc := 97) 39 dX6_keepRow_97 rfl ?_
    refine xw_pick (pc := 39) (l' := [(2, _), (0, _), (1, _)]) [0, 2, 3] rfl ?_
    rw [e1, e0]
    exact ih (k + 1) _ (by omega) (by omega) (lkEq_kp (v := brW (S 1) (S 0 14) rr) (lkEq_look hT))
