/-! MODEL 11: the sheet, reasons, undo -/
set_option maxRecDepth 100000
/-- the sheet cleared up to k -/
def shC (S : xMS) : Nat → xMS
  | 0 => S
  | k + 1 => mset (shC S k) 9 (3 * k) (-1)
theorem SP_X6_sheet_F {d : Nat} {g : xG} {m : Nat} {S : xMS} (hM : xMod g m) (v : Int32) (hv : ¬ inR v (nI 0) (nI 4) = true) : XM M_X6_sheet (d + 1) [.ref m, .int v] (xWith g m S) (xOne (some (.int (nI 0))) (xWith g m (mset S 0 6 (nI 1)))) := by
  refine xm_of (by decide +kernel) (Nat.le_of_ble_eq_true rfl) ?_
  show XW _ _ 0 [(0, _), (1, _)] [] _ _
  refine xw_aload_n (pc := 0) dX6_sheet_0 0 rfl ?_
  refine xw_iload_n (pc := 1) dX6_sheet_1 1 rfl ?_
  refine xw_iconst (v := nI 0) (pc := 2) dX6_sheet_2 rfl ?_
  refine xw_iconst (v := nI 4) (pc := 3) dX6_sheet_3 rfl ?_
  refine xw_callV (pc := 4) (xr_S (as := [_, _, _]) ok_X6_in rfl (by decide) q2364 q2365 dX6_sheet_4 rfl rfl (Nat.le_of_ble_eq_true rfl)) (SP_X6_inF (by assumption)) ?_
  refine xw_if_eq (pc := 7) 14 dX6_sheet_7 rfl (fun _ => ?_) (fun hb => absurd hb (by decide))
  refine xw_iconst (v := nI 1) (pc := 14) dX6_sheet_14 rfl ?_
  refine xm_putI (pc := 15) hM fd_X6_62 (xfin_of (by decide) (by decide +kernel)) dX6_sheet_15 ?_
  refine xw_aload_n (pc := 18) dX6_sheet_18 0 rfl ?_
  refine xm_getN (k := 1) (pc := 19) hM fd_X6_62 dX6_sheet_19 (by first | rfl | (simp [mset, mcpy]; done)) ?_
  refine xw_if_le (pc := 22) 27 dX6_sheet_22 rfl (fun hb => absurd hb (by decide)) (fun _ => ?_)
  refine xw_iconst (v := nI 0) (pc := 25) dX6_sheet_25 rfl ?_
  refine xw_iret (pc := 26) .int dX6_sheet_26 rfl ?_ 
  exact ⟨rfl, rfl⟩
theorem lp_X6_sheet {d : Nat} {g : xG} {m : Nat} {S : xMS} (hM : xMod g m) {a : Int32} {c : Int32} {Q : Option Value ⊕ Nat → xG → Prop} (hq : Q (.inl (some (.int c))) (xWith g m (shC S 6))) : ∀ (j k : Nat), 6 - k < j → k ≤ 6 → XW M_X6_sheet (d + 1) 39 [(3, .int (nI k)), (2, .int c), (0, .ref m), (1, .int a)] [] (xWith g m (shC S k)) Q := by
  intro j
  induction j with
  | zero => intro k h; omega
  | succ j ih =>
  intro k hj hk
  refine xw_iload_n (pc := 39) dX6_sheet_39 0 rfl ?_
  refine xw_bipush (v := nI 6) (pc := 40) dX6_sheet_40 (by decide +kernel) ?_
  refine xw_icmp_ge (pc := 42) 60 dX6_sheet_42 rfl (fun hb42 => ?_) (fun hb42 => ?_)
  · replace hb42 : 6 ≤ k := (nI_leI (a := 6) (b := k) (by omega) (by omega)).mp hb42
    refine xw_iload_n (pc := 60) dX6_sheet_60 1 rfl ?_
    refine xw_iret (pc := 61) .int dX6_sheet_61 rfl ?_ 
    obtain rfl : k = 6 := by omega
    exact hq
  · replace hb42 : ¬ (6 ≤ k) := mt (nI_leI (a := 6) (b := k) (by omega) (by omega)).mpr hb42
    refine xw_aload_n (pc := 45) dX6_sheet_45 2 rfl ?_
    refine xm_get (p := 9) (pc := 46) hM fd_X6_42 dX6_sheet_46 rfl ?_
    refine xw_iconst (v := nI 3) (pc := 49) dX6_sheet_49 rfl ?_
    refine xw_iload_n (pc := 50) dX6_sheet_50 0 rfl ?_
    refine xn_imul (pc := 51) dX6_sheet_51 ?_
    refine xw_iconst (v := -1) (pc := 52) dX6_sheet_52 (by decide +kernel) ?_
    refine xm_iast (pc := 53) hM dX6_sheet_53 rfl (by omega) ?_
    refine xw_iinc (v := nI (k + 1)) (l' := [(3, _), (2, _), (0, _), (1, _)]) (pc := 54) dX6_sheet_54 0 rfl (nI_add _ 1) (by decide) rfl ?_
    refine xw_goto (pc := 57) 39 dX6_sheet_57 rfl ?_
    exact ih (k + 1) (by omega) (by omega)
theorem SP_X6_sheet {d : Nat} {g : xG} {m : Nat} {S : xMS} (hM : xMod g m) (v : Int32) (hv : inR v (nI 0) (nI 4) = true) : XM M_X6_sheet (d + 1) [.ref m, .int v] (xWith g m S) (xOne (some (.int (nI (cntB (osP S) 6)))) (xWith g m (shC (mset (mset S 0 6 (nI 0)) 0 17 v) 6))) := by
  refine xm_of (by decide +kernel) (Nat.le_of_ble_eq_true rfl) ?_
  show XW _ _ 0 [(0, _), (1, _)] [] _ _
  refine xw_aload_n (pc := 0) dX6_sheet_0 0 rfl ?_
  refine xw_iload_n (pc := 1) dX6_sheet_1 1 rfl ?_
  refine xw_iconst (v := nI 0) (pc := 2) dX6_sheet_2 rfl ?_
  refine xw_iconst (v := nI 4) (pc := 3) dX6_sheet_3 rfl ?_
  refine xw_callV (pc := 4) (xr_S (as := [_, _, _]) ok_X6_in rfl (by decide) q2364 q2365 dX6_sheet_4 rfl rfl (Nat.le_of_ble_eq_true rfl)) (SP_X6_inT (by assumption)) ?_
  refine xw_if_eq (pc := 7) 14 dX6_sheet_7 rfl (fun hb => absurd hb (by decide)) (fun _ => ?_)
  refine xw_iconst (v := nI 0) (pc := 10) dX6_sheet_10 rfl ?_
  refine xw_goto (pc := 11) 15 dX6_sheet_11 rfl ?_
  refine xm_putI (pc := 15) hM fd_X6_62 (xfin_of (by decide) (by decide +kernel)) dX6_sheet_15 ?_
  refine xw_aload_n (pc := 18) dX6_sheet_18 0 rfl ?_
  refine xm_getN (k := 0) (pc := 19) hM fd_X6_62 dX6_sheet_19 (by first | rfl | (simp [mset, mcpy]; done)) ?_
  refine xw_if_le (pc := 22) 27 dX6_sheet_22 rfl (fun _ => ?_) (fun hb => absurd hb (by decide))
  refine xw_aload_n (pc := 27) dX6_sheet_27 0 rfl ?_
  refine xw_callV (pc := 28) (xr_V (as := []) ok_X6_onSheet rfl (by decide) q2633 q2635 qs81 (by rw [xtag_with, hM.1]; rfl) (by rw [xtag_with, hM.1]; rfl) dX6_sheet_28 rfl rfl (Nat.le_of_ble_eq_true rfl)) (SP_X6_onSheet hM) ?_
  refine xw_istore_n (l' := [(2, _), (0, _), (1, _)]) (pc := 31) dX6_sheet_31 rfl (by decide) rfl ?_
  refine xw_aload_n (pc := 32) dX6_sheet_32 1 rfl ?_
  refine xw_iload_n (pc := 33) dX6_sheet_33 2 rfl ?_
  refine xm_putI (pc := 34) hM fd_X6_39 (xfin_of (by decide) (by decide +kernel)) dX6_sheet_34 ?_
  refine xw_iconst (v := nI 0) (pc := 37) dX6_sheet_37 rfl ?_
  refine xw_istore_n (l' := [(3, _), (2, _), (0, _), (1, _)]) (pc := 38) dX6_sheet_38 rfl (by decide) rfl ?_
  exact lp_X6_sheet (S := mset (mset S 0 6 (nI 0)) 0 17 v) hM ⟨rfl, rfl⟩ 7 0 (by omega) (by omega)
def opLay (S : xMS) (pl r k : Nat) : Int32 × xMS := if (!decide (S 0 17 = nI 4) && !decide (S 1 (23 + 20 * r + 8 + 3 * k + 1) = S 0 17)) = true then (nI 0, mset (mset (mset (mset S 0 6 (nI 0)) 0 6 (nI 3)) 0 7 (nI 9)) 0 8 (S 1 (23 + 20 * r + 8 + 3 * k + 1))) else
  (nI (cntB (osP (mcpy (mset S 0 6 (nI 0)) 1 9 (23 + 20 * r + 8 + 3 * k) (3 * pl) 3)) 6), mcpy (mset S 0 6 (nI 0)) 1 9 (23 + 20 * r + 8 + 3 * k) (3 * pl) 3)
theorem SP_X6_lay_F {d : Nat} {g : xG} {m : Nat} {S : xMS} (hM : xMod g m) (a b v : Int32) (hv : ¬ inR v (nI 0) (nI 5) = true) : XM M_X6_lay (d + 3) [.ref m, .int v, .int a, .int b] (xWith g m S) (xOne (some (.int (nI 0))) (xWith g m (mset S 0 6 (nI 1)))) := by
  refine xm_of (by decide +kernel) (Nat.le_of_ble_eq_true rfl) ?_
  show XW _ _ 0 [(0, _), (1, _), (2, _), (3, _)] [] _ _
  refine xw_aload_n (pc := 0) dX6_lay_0 0 rfl ?_
  refine xw_iload_n (pc := 1) dX6_lay_1 1 rfl ?_
  refine xw_iconst (v := nI 0) (pc := 2) dX6_lay_2 rfl ?_
  refine xw_iconst (v := nI 5) (pc := 3) dX6_lay_3 rfl ?_
  refine xw_callV (pc := 4) (xr_S (as := [_, _, _]) ok_X6_in rfl (by decide) q2364 q2365 dX6_lay_4 rfl rfl (Nat.le_of_ble_eq_true rfl)) (SP_X6_inF (by assumption)) ?_
  refine xw_if_eq (pc := 7) 18 dX6_lay_7 rfl (fun _ => ?_) (fun hb => absurd hb (by decide))
  refine xw_iconst (v := nI 1) (pc := 18) dX6_lay_18 rfl ?_
  refine xw_goto (pc := 19) 44 dX6_lay_19 rfl ?_
  refine xm_putI (pc := 44) hM fd_X6_62 (xfin_of (by decide) (by decide +kernel)) dX6_lay_44 ?_
  refine xw_aload_n (pc := 47) dX6_lay_47 0 rfl ?_
  refine xm_getN (k := 1) (pc := 48) hM fd_X6_62 dX6_lay_48 (by first | rfl | (simp [mset, mcpy]; done)) ?_
  refine xw_if_le (pc := 51) 56 dX6_lay_51 rfl (fun hb => absurd hb (by decide)) (fun _ => ?_)
  refine xw_iconst (v := nI 0) (pc := 54) dX6_lay_54 rfl ?_
  refine xw_iret (pc := 55) .int dX6_lay_55 rfl ?_ 
  exact ⟨rfl, rfl⟩
theorem SP_X6_lay_F1 {d : Nat} {g : xG} {m : Nat} {S : xMS} (hM : xMod g m) (rr : Nat) (hr : rr ≤ 16) (h1 : S 1 1 = nI rr) (v : Int32) (hv : ¬ inR v (nI 0) (nI rr - nI 1) = true) (a b : Int32) (ha : inR a (nI 0) (nI 5) = true) : XM M_X6_lay (d + 3) [.ref m, .int a, .int v, .int b] (xWith g m S) (xOne (some (.int (nI 0))) (xWith g m (mset S 0 6 (nI 1)))) := by
  refine xm_of (by decide +kernel) (Nat.le_of_ble_eq_true rfl) ?_
  show XW _ _ 0 [(0, _), (1, _), (2, _), (3, _)] [] _ _
  refine xw_aload_n (pc := 0) dX6_lay_0 0 rfl ?_
  refine xw_iload_n (pc := 1) dX6_lay_1 1 rfl ?_
  refine xw_iconst (v := nI 0) (pc := 2) dX6_lay_2 rfl ?_
  refine xw_iconst (v := nI 5) (pc := 3) dX6_lay_3 rfl ?_
  refine xw_callV (pc := 4) (xr_S (as := [_, _, _]) ok_X6_in rfl (by decide) q2364 q2365 dX6_lay_4 rfl rfl (Nat.le_of_ble_eq_true rfl)) (SP_X6_inT (by assumption)) ?_
  refine xw_if_eq (pc := 7) 18 dX6_lay_7 rfl (fun hb => absurd hb (by decide)) (fun _ => ?_)
  refine xw_aload_n (pc := 10) dX6_lay_10 0 rfl ?_
  refine xw_iload_n (pc := 11) dX6_lay_11 2 rfl ?_
  refine xw_callV (pc := 12) (xr_V (as := [_]) ok_X6_isRule rfl (by decide) q2445 q2447 qs60 (by rw [xtag_with, hM.1]; rfl) (by rw [xtag_with, hM.1]; rfl) dX6_lay_12 rfl rfl (Nat.le_of_ble_eq_true rfl)) (SP_X6_isRuleF hM rr h1 (by assumption)) ?_
  refine xw_if_ne (pc := 15) 22 dX6_lay_15 rfl (fun hb => absurd hb (by decide)) (fun _ => ?_)
  refine xw_iconst (v := nI 1) (pc := 18) dX6_lay_18 rfl ?_
  refine xw_goto (pc := 19) 44 dX6_lay_19 rfl ?_
  refine xm_putI (pc := 44) hM fd_X6_62 (xfin_of (by decide) (by decide +kernel)) dX6_lay_44 ?_
  refine xw_aload_n (pc := 47) dX6_lay_47 0 rfl ?_
  refine xm_getN (k := 1) (pc := 48) hM fd_X6_62 dX6_lay_48 (by first | rfl | (simp [mset, mcpy]; done)) ?_
  refine xw_if_le (pc := 51) 56 dX6_lay_51 rfl (fun hb => absurd hb (by decide)) (fun _ => ?_)
  refine xw_iconst (v := nI 0) (pc := 54) dX6_lay_54 rfl ?_
  refine xw_iret (pc := 55) .int dX6_lay_55 rfl ?_ 
  exact ⟨rfl, rfl⟩
theorem SP_X6_lay_F2 {d : Nat} {g : xG} {m : Nat} {S : xMS} (hM : xMod g m) (rr : Nat) (hr : rr ≤ 16) (h1 : S 1 1 = nI rr) (r t : Nat) (hrr : r < rr) (ht : t ≤ 4) (h7 : S 1 (23 + 20 * r + 7) = nI t) (a b : Int32) (ha : inR a (nI 0) (nI 5) = true) (hb : ¬ inR b (nI 0) (nI t - nI 1) = true) : XM M_X6_lay (d + 3) [.ref m, .int a, .int (nI r), .int b] (xWith g m S) (xOne (some (.int (nI 0))) (xWith g m (mset S 0 6 (nI 2)))) := by
  refine xm_of (by decide +kernel) (Nat.le_of_ble_eq_true rfl) ?_
  show XW _ _ 0 [(0, _), (1, _), (2, _), (3, _)] [] _ _
  refine xw_aload_n (pc := 0) dX6_lay_0 0 rfl ?_
  refine xw_iload_n (pc := 1) dX6_lay_1 1 rfl ?_
  refine xw_iconst (v := nI 0) (pc := 2) dX6_lay_2 rfl ?_
  refine xw_iconst (v := nI 5) (pc := 3) dX6_lay_3 rfl ?_
  refine xw_callV (pc := 4) (xr_S (as := [_, _, _]) ok_X6_in rfl (by decide) q2364 q2365 dX6_lay_4 rfl rfl (Nat.le_of_ble_eq_true rfl)) (SP_X6_inT (by assumption)) ?_
  refine xw_if_eq (pc := 7) 18 dX6_lay_7 rfl (fun hb => absurd hb (by decide)) (fun _ => ?_)
  refine xw_aload_n (pc := 10) dX6_lay_10 0 rfl ?_
  refine xw_iload_n (pc := 11) dX6_lay_11 2 rfl ?_
  refine xw_callV (pc := 12) (xr_V (as := [_]) ok_X6_isRule rfl (by decide) q2445 q2447 qs60 (by rw [xtag_with, hM.1]; rfl) (by rw [xtag_with, hM.1]; rfl) dX6_lay_12 rfl rfl (Nat.le_of_ble_eq_true rfl)) (SP_X6_isRuleK hM r rr hr (by assumption) h1) ?_
  refine xw_if_ne (pc := 15) 22 dX6_lay_15 rfl (fun _ => ?_) (fun hb => absurd hb (by decide))
  refine xw_iload_n (pc := 22) dX6_lay_22 3 rfl ?_
  refine xw_iconst (v := nI 0) (pc := 23) dX6_lay_23 rfl ?_
  refine xw_aload_n (pc := 24) dX6_lay_24 0 rfl ?_
  refine xw_iload_n (pc := 25) dX6_lay_25 2 rfl ?_
  refine xw_bipush (v := nI 7) (pc := 26) dX6_lay_26 (by decide +kernel) ?_
  refine xw_callV (pc := 28) (xr_V (as := [_, _]) ok_X6_of rfl (by decide) q2396 q2398 qs53 (by rw [xtag_with, hM.1]; rfl) (by rw [xtag_with, hM.1]; rfl) dX6_lay_28 rfl rfl (Nat.le_of_ble_eq_true rfl)) (SP_X6_ofN hM r 7 t (by omega) h7) ?_
  refine xw_iconst (v := nI 1) (pc := 31) dX6_lay_31 rfl ?_
  refine xw_isub (pc := 32) dX6_lay_32 ?_
  refine xw_callV (pc := 33) (xr_S (as := [_, _, _]) ok_X6_in rfl (by decide) q2364 q2365 dX6_lay_33 rfl rfl (Nat.le_of_ble_eq_true rfl)) (SP_X6_inF (by assumption)) ?_
  refine xw_if_ne (pc := 36) 43 dX6_lay_36 rfl (fun hb => absurd hb (by decide)) (fun _ => ?_)
  refine xw_iconst (v := nI 2) (pc := 39) dX6_lay_39 rfl ?_
  refine xw_goto (pc := 40) 44 dX6_lay_40 rfl ?_
  refine xm_putI (pc := 44) hM fd_X6_62 (xfin_of (by decide) (by decide +kernel)) dX6_lay_44 ?_
  refine xw_aload_n (pc := 47) dX6_lay_47 0 rfl ?_
  refine xm_getN (k := 2) (pc := 48) hM fd_X6_62 dX6_lay_48 (by first | rfl | (simp [mset, mcpy]; done)) ?_
  refine xw_if_le (pc := 51) 56 dX6_lay_51 rfl (fun hb => absurd hb (by decide)) (fun _ => ?_)
  refine xw_iconst (v := nI 0) (pc := 54) dX6_lay_54 rfl ?_
  refine xw_iret (pc := 55) .int dX6_lay_55 rfl ?_ 
  exact ⟨rfl, rfl⟩
theorem SP_X6_lay {d : Nat} {g : xG} {m : Nat} {S : xMS} (hM : xMod g m) (rr : Nat) (hr : rr ≤ 16) (h1 : S 1 1 = nI rr) (r t : Nat) (hrr : r < rr) (ht : t ≤ 4) (h7 : S 1 (23 + 20 * r + 7) = nI t) (pl k : Nat) (hpl : pl < 6) (hk : k < t) : XM M_X6_lay (d + 3) [.ref m, .int (nI pl), .int (nI r), .int (nI k)] (xWith g m S) (xOne (some (.int (opLay S pl r k).1)) (xWith g m (opLay S pl r k).2)) := by
  have hi1 := inR_k (n := t) (k := k) (by omega) hk
  have hi2 := inR_nat' (k := pl) (b := 5) (by decide) (by omega)
  have e1 : (mset S 0 6 (nI 0)) 1 = S 1 := mset_q (by decide)
  have e17 : mset S 0 6 (nI 0) 0 17 = S 0 17 := rfl
  refine xm_of (by decide +kernel) (Nat.le_of_ble_eq_true rfl) ?_
  show XW _ _ 0 [(0, _), (1, _), (2, _), (3, _)] [] _ _
  refine xw_aload_n (pc := 0) dX6_lay_0 0 rfl ?_
  refine xw_iload_n (pc := 1) dX6_lay_1 1 rfl ?_
  refine xw_iconst (v := nI 0) (pc := 2) dX6_lay_2 rfl ?_
  refine xw_iconst (v := nI 5) (pc := 3) dX6_lay_3 rfl ?_
  refine xw_callV (pc := 4) (xr_S (as := [_, _, _]) ok_X6_in rfl (by decide) q2364 q2365 dX6_lay_4 rfl rfl (Nat.le_of_ble_eq_true rfl)) (SP_X6_inT (by assumption)) ?_
  refine xw_if_eq (pc := 7) 18 dX6_lay_7 rfl (fun hb => absurd hb (by decide)) (fun _ => ?_)
  refine xw_aload_n (pc := 10) dX6_lay_10 0 rfl ?_
  refine xw_iload_n (pc := 11) dX6_lay_11 2 rfl ?_
  refine xw_callV (pc := 12) (xr_V (as := [_]) ok_X6_isRule rfl (by decide) q2445 q2447 qs60 (by rw [xtag_with, hM.1]; rfl) (by rw [xtag_with, hM.1]; rfl) dX6_lay_12 rfl rfl (Nat.le_of_ble_eq_true rfl)) (SP_X6_isRuleK hM r rr hr (by assumption) h1) ?_
  refine xw_if_ne (pc := 15) 22 dX6_lay_15 rfl (fun _ => ?_) (fun hb => absurd hb (by decide))
  refine xw_iload_n (pc := 22) dX6_lay_22 3 rfl ?_
  refine xw_iconst (v := nI 0) (pc := 23) dX6_lay_23 rfl ?_
  refine xw_aload_n (pc := 24) dX6_lay_24 0 rfl ?_
  refine xw_iload_n (pc := 25) dX6_lay_25 2 rfl ?_
  refine xw_bipush (v := nI 7) (pc := 26) dX6_lay_26 (by decide +kernel) ?_
  refine xw_callV (pc := 28) (xr_V (as := [_, _]) ok_X6_of rfl (by decide) q2396 q2398 qs53 (by rw [xtag_with, hM.1]; rfl) (by rw [xtag_with, hM.1]; rfl) dX6_lay_28 rfl rfl (Nat.le_of_ble_eq_true rfl)) (SP_X6_ofN hM r 7 t (by omega) h7) ?_
  refine xw_iconst (v := nI 1) (pc := 31) dX6_lay_31 rfl ?_
  refine xw_isub (pc := 32) dX6_lay_32 ?_
  refine xw_callV (pc := 33) (xr_S (as := [_, _, _]) ok_X6_in rfl (by decide) q2364 q2365 dX6_lay_33 rfl rfl (Nat.le_of_ble_eq_true rfl)) (SP_X6_inT (by assumption)) ?_
  refine xw_if_ne (pc := 36) 43 dX6_lay_36 rfl (fun _ => ?_) (fun hb => absurd hb (by decide))
  refine xw_iconst (v := nI 0) (pc := 43) dX6_lay_43 rfl ?_
  refine xm_putI (pc := 44) hM fd_X6_62 (xfin_of (by decide) (by decide +kernel)) dX6_lay_44 ?_
  refine xw_aload_n (pc := 47) dX6_lay_47 0 rfl ?_
  refine xm_getN (k := 0) (pc := 48) hM fd_X6_62 dX6_lay_48 (by first | rfl | (simp [mset, mcpy]; done)) ?_
  refine xw_if_le (pc := 51) 56 dX6_lay_51 rfl (fun _ => ?_) (fun hb => absurd hb (by decide))
  refine xw_iload_n (pc := 56) dX6_lay_56 2 rfl ?_
  refine xw_callV (pc := 57) (xr_S (as := [_]) ok_X6_at rfl (by decide) q2400 q2401 dX6_lay_57 rfl rfl (Nat.le_of_ble_eq_true rfl)) (SP_X6_at (r)) ?_
  refine xw_bipush (v := nI 8) (pc := 60) dX6_lay_60 (by decide +kernel) ?_
  refine xn_iadd (pc := 62) dX6_lay_62 ?_
  refine xw_iconst (v := nI 3) (pc := 63) dX6_lay_63 rfl ?_
  refine xw_iload_n (pc := 64) dX6_lay_64 3 rfl ?_
  refine xn_imul (pc := 65) dX6_lay_65 ?_
  refine xn_iadd (pc := 66) dX6_lay_66 ?_
  refine xw_istore (l' := [(4, _), (0, _), (1, _), (2, _), (3, _)]) (pc := 67) dX6_lay_67 (by decide) rfl ?_
  refine xw_aload_n (pc := 69) dX6_lay_69 1 rfl ?_
  refine xm_getI (pc := 70) hM fd_X6_39 dX6_lay_70 ?_
  refine xw_iconst (v := nI 4) (pc := 73) dX6_lay_73 rfl ?_
  refine xw_icmp_eq (pc := 74) 110 dX6_lay_74 rfl (fun hb74 => ?_) (fun hb74 => ?_)
  · refine xw_aload_n (pc := 110) dX6_lay_110 1 rfl ?_
    refine xm_get (p := 1) (pc := 111) hM fd_X6_9 dX6_lay_111 rfl ?_
    refine xw_iload (pc := 114) dX6_lay_114 0 rfl ?_
    refine xw_aload_n (pc := 116) dX6_lay_116 1 rfl ?_
    refine xm_get (p := 9) (pc := 117) hM fd_X6_42 dX6_lay_117 rfl ?_
    refine xw_iconst (v := nI 3) (pc := 120) dX6_lay_120 rfl ?_
    refine xw_iload_n (pc := 121) dX6_lay_121 2 rfl ?_
    refine xn_imul (pc := 122) dX6_lay_122 ?_
    refine xw_iconst (v := nI 3) (pc := 123) dX6_lay_123 rfl ?_
    refine xm_copy (pc := 124) hM dX6_lay_124 q2371 rfl rfl (by decide) (by omega) (by omega) (Nat.le_of_ble_eq_true rfl) ?_
    refine xw_aload_n (pc := 127) dX6_lay_127 1 rfl ?_
    refine xw_callV (pc := 128) (xr_V (as := []) ok_X6_onSheet rfl (by decide) q2633 q2635 qs81 (by rw [xtag_with, hM.1]; rfl) (by rw [xtag_with, hM.1]; rfl) dX6_lay_128 rfl rfl (Nat.le_of_ble_eq_true rfl)) (SP_X6_onSheet hM) ?_
    refine xw_iret (pc := 131) .int dX6_lay_131 rfl ?_ 
    simp only [e1, e17] at *
    refine ⟨?_, ?_⟩ <;> simp_all [opLay]
  · refine xw_aload_n (pc := 77) dX6_lay_77 1 rfl ?_
    refine xm_get (p := 1) (pc := 78) hM fd_X6_9 dX6_lay_78 rfl ?_
    refine xw_iload (pc := 81) dX6_lay_81 0 rfl ?_
    refine xw_iconst (v := nI 1) (pc := 83) dX6_lay_83 rfl ?_
    refine xn_iadd (pc := 84) dX6_lay_84 ?_
    refine xm_iald (pc := 85) hM dX6_lay_85 rfl (by omega) ?_
    refine xw_aload_n (pc := 86) dX6_lay_86 1 rfl ?_
    refine xm_getI (pc := 87) hM fd_X6_39 dX6_lay_87 ?_
    refine xw_icmp_eq (pc := 90) 110 dX6_lay_90 rfl (fun hb90 => ?_) (fun hb90 => ?_)
    · refine xw_aload_n (pc := 110) dX6_lay_110 1 rfl ?_
      refine xm_get (p := 1) (pc := 111) hM fd_X6_9 dX6_lay_111 rfl ?_
      refine xw_iload (pc := 114) dX6_lay_114 0 rfl ?_
      refine xw_aload_n (pc := 116) dX6_lay_116 1 rfl ?_
      refine xm_get (p := 9) (pc := 117) hM fd_X6_42 dX6_lay_117 rfl ?_
      refine xw_iconst (v := nI 3) (pc := 120) dX6_lay_120 rfl ?_
      refine xw_iload_n (pc := 121) dX6_lay_121 2 rfl ?_
      refine xn_imul (pc := 122) dX6_lay_122 ?_
      refine xw_iconst (v := nI 3) (pc := 123) dX6_lay_123 rfl ?_
      refine xm_copy (pc := 124) hM dX6_lay_124 q2371 rfl rfl (by decide) (by omega) (by omega) (Nat.le_of_ble_eq_true rfl) ?_
      refine xw_aload_n (pc := 127) dX6_lay_127 1 rfl ?_
      refine xw_callV (pc := 128) (xr_V (as := []) ok_X6_onSheet rfl (by decide) q2633 q2635 qs81 (by rw [xtag_with, hM.1]; rfl) (by rw [xtag_with, hM.1]; rfl) dX6_lay_128 rfl rfl (Nat.le_of_ble_eq_true rfl)) (SP_X6_onSheet hM) ?_
      refine xw_iret (pc := 131) .int dX6_lay_131 rfl ?_ 
      simp only [e1, e17] at *
      refine ⟨?_, ?_⟩ <;> simp_all [opLay]
    · refine xw_aload_n (pc := 93) dX6_lay_93 1 rfl ?_
      refine xw_iconst (v := nI 3) (pc := 94) dX6_lay_94 rfl ?_
      refine xw_bipush (v := nI 9) (pc := 95) dX6_lay_95 (by decide +kernel) ?_
      refine xw_aload_n (pc := 97) dX6_lay_97 1 rfl ?_
      refine xm_get (p := 1) (pc := 98) hM fd_X6_9 dX6_lay_98 rfl ?_
      refine xw_iload (pc := 101) dX6_lay_101 0 rfl ?_
      refine xw_iconst (v := nI 1) (pc := 103) dX6_lay_103 rfl ?_
      refine xn_iadd (pc := 104) dX6_lay_104 ?_
      refine xm_iald (pc := 105) hM dX6_lay_105 rfl (by omega) ?_
      refine xw_callV (pc := 106) (xr_V (as := [_, _, _]) ok_X6_refuse rfl (by decide) q2433 q2435 qs58 (by rw [xtag_with, hM.1]; rfl) (by rw [xtag_with, hM.1]; rfl) dX6_lay_106 rfl rfl (Nat.le_of_ble_eq_true rfl)) (SP_X6_refuse hM) ?_
      refine xw_iret (pc := 109) .int dX6_lay_109 rfl ?_ 
      simp only [e1, e17] at *
      refine ⟨?_, ?_⟩ <;> simp_all [opLay]
/-- the tests that are to come from the sheet, up to place k -/
def tkS (S : xMS) : Nat → xMS
  | 0 => mset (mset S 0 6 (nI 0)) 0 11 (nI 0)
  | k + 1 => if osP S k = true then mtest (tkS S k) (cntB (osP S) k) (S 9 (3 * k)) (S 9 (3 * k + 1)) (S 9 (3 * k + 2)) else tkS S k
theorem mtest_q {S : xMS} {k q : Nat} {a b c : Int32} (h0 : q ≠ 0) (h5 : q ≠ 5) : mtest S k a b c q = S q := by
  unfold mtest
  rw [mset_q h0, mset_q h5, mset_q h5, mset_q h5]
theorem tkS_q {S : xMS} {k q : Nat} (h0 : q ≠ 0) (h5 : q ≠ 5) : tkS S k q = S q := by
  induction k with
  | zero => rw [tkS, mset_q h0, mset_q h0]
  | succ k ih =>
    rw [tkS]
    split
    · rw [mtest_q h0 h5, ih]
    · exact ih
theorem tkS_0 {S : xMS} {k j : Nat} (h6 : j ≠ 6) (h11 : j ≠ 11) : tkS S k 0 j = S 0 j := by
  induction k with
  | zero => rw [tkS, mset_s, if_neg h11, mset_s, if_neg h6]
  | succ k ih =>
    rw [tkS]
    split
    · unfold mtest
      rw [mset_s, if_neg h11, mset_q (by decide), mset_q (by decide), mset_q (by decide), ih]
    · exact ih
theorem tkS_m {S : xMS} {k : Nat} : tkS S k 0 11 = nI (cntB (osP S) k) := by
  induction k with
  | zero => rfl
  | succ k ih =>
    rw [tkS, cntB]
    split
    · unfold mtest
      rw [mset_s, if_pos rfl]
    · exact ih
/-- the sheet's signs are signs -/
def WFsh (S : xMS) : Prop := ∀ k, k < 6 → osP S k = true → isN (S 9) (3 * k + 1) 4
theorem tkS_w {S : xMS} {k : Nat} (h : WFsh S) (hk : k ≤ 6) : WFmo (tkS S k) (cntB (osP S) k) := by
  induction k with
  | zero => intro x hx; rw [cntB] at hx; omega
  | succ k ih =>
    have ih' := ih (by omega)
    intro x hx
    rw [cntB] at hx
    rw [tkS]
    by_cases ho : osP S k = true
    · rw [if_pos ho] at hx ⊢
      unfold isN aN mtest
      rw [mset_q (by decide), mset_s, if_neg (by omega), mset_s]
      by_cases hxe : x = cntB (osP S) k
      · rw [if_pos (by omega)]
        exact h k (by omega) ho
      · rw [if_neg (by omega), mset_s, if_neg (by omega)]
        exact ih' x (by omega)
    · rw [if_neg ho] at hx ⊢
      exact ih' x (by omega)
theorem lp_X6_takeSheet {d : Nat} {g : xG} {m : Nat} {S : xMS} (hM : xMod g m) {r : Nat} {Q : Option Value ⊕ Nat → xG → Prop} (hq : XW M_X6_takeSheet (d + 6) 88 [(2, .int (nI 6)), (0, .ref m), (1, .int (nI r))] [] (xWith g m (tkS S 6)) Q) : ∀ (j k : Nat), 6 - k < j → k ≤ 6 → XW M_X6_takeSheet (d + 6) 33 [(2, .int (nI k)), (0, .ref m), (1, .int (nI r))] [] (xWith g m (tkS S k)) Q := by
  intro j
  induction j with
  | zero => intro k h; omega
  | succ j ih =>
  intro k hj hk
  have e9 : (tkS S k) 9 = S 9 := tkS_q (by decide) (by decide)
  have hcl := cntB_le (osP S) k
  refine xw_iload_n (pc := 33) dX6_takeSheet_33 0 rfl ?_
  refine xw_bipush (v := nI 6) (pc := 34) dX6_takeSheet_34 (by decide +kernel) ?_
  refine xw_icmp_ge (pc := 36) 88 dX6_takeSheet_36 rfl (fun hb36 => ?_) (fun hb36 => ?_)
  · replace hb36 : 6 ≤ k := (nI_leI (a := 6) (b := k) (by omega) (by omega)).mp hb36
    obtain rfl : k = 6 := by omega
    exact hq
  · replace hb36 : ¬ (6 ≤ k) := mt (nI_leI (a := 6) (b := k) (by omega) (by omega)).mpr hb36
    refine xw_aload_n (pc := 39) dX6_takeSheet_39 1 rfl ?_
    refine xm_get (p := 9) (pc := 40) hM fd_X6_42 dX6_takeSheet_40 rfl ?_
    refine xw_iconst (v := nI 3) (pc := 43) dX6_takeSheet_43 rfl ?_
    refine xw_iload_n (pc := 44) dX6_takeSheet_44 0 rfl ?_
    refine xn_imul (pc := 45) dX6_takeSheet_45 ?_
    refine xm_iald (pc := 46) hM dX6_takeSheet_46 rfl (by omega) ?_
    refine xw_if_lt (pc := 47) 82 dX6_takeSheet_47 rfl (fun hb47 => ?_) (fun hb47 => ?_)
    · refine xw_iinc (v := nI (k + 1)) (l' := [(2, _), (0, _), (1, _)]) (pc := 82) dX6_takeSheet_82 0 rfl (nI_add _ 1) (by decide) rfl ?_
      refine xw_goto (pc := 85) 33 dX6_takeSheet_85 rfl ?_
      have h := ih (k + 1) (by omega) (by omega)
      rw [e9] at hb47
      first
        | (rw [show tkS S (k + 1) = tkS S k from if_neg (by simp [osP, hb47])] at h; exact h)
        | (rw [show tkS S (k + 1) = _ from if_pos (by simp [osP]; exact Int32.not_lt.mp hb47)] at h
           rw [e9]
           exact h)
    · refine xw_aload_n (pc := 50) dX6_takeSheet_50 1 rfl ?_
      refine xw_aload_n (pc := 51) dX6_takeSheet_51 1 rfl ?_
      refine xm_get (p := 9) (pc := 52) hM fd_X6_42 dX6_takeSheet_52 rfl ?_
      refine xw_iconst (v := nI 3) (pc := 55) dX6_takeSheet_55 rfl ?_
      refine xw_iload_n (pc := 56) dX6_takeSheet_56 0 rfl ?_
      refine xn_imul (pc := 57) dX6_takeSheet_57 ?_
      refine xm_iald (pc := 58) hM dX6_takeSheet_58 rfl (by omega) ?_
      refine xw_aload_n (pc := 59) dX6_takeSheet_59 1 rfl ?_
      refine xm_get (p := 9) (pc := 60) hM fd_X6_42 dX6_takeSheet_60 rfl ?_
      refine xw_iconst (v := nI 3) (pc := 63) dX6_takeSheet_63 rfl ?_
      refine xw_iload_n (pc := 64) dX6_takeSheet_64 0 rfl ?_
      refine xn_imul (pc := 65) dX6_takeSheet_65 ?_
      refine xw_iconst (v := nI 1) (pc := 66) dX6_takeSheet_66 rfl ?_
      refine xn_iadd (pc := 67) dX6_takeSheet_67 ?_
      refine xm_iald (pc := 68) hM dX6_takeSheet_68 rfl (by omega) ?_
      refine xw_aload_n (pc := 69) dX6_takeSheet_69 1 rfl ?_
      refine xm_get (p := 9) (pc := 70) hM fd_X6_42 dX6_takeSheet_70 rfl ?_
      refine xw_iconst (v := nI 3) (pc := 73) dX6_takeSheet_73 rfl ?_
      refine xw_iload_n (pc := 74) dX6_takeSheet_74 0 rfl ?_
      refine xn_imul (pc := 75) dX6_takeSheet_75 ?_
      refine xw_iconst (v := nI 2) (pc := 76) dX6_takeSheet_76 rfl ?_
      refine xn_iadd (pc := 77) dX6_takeSheet_77 ?_
      refine xm_iald (pc := 78) hM dX6_takeSheet_78 rfl (by omega) ?_
      refine xw_callU (pc := 79) (xr_V (as := [_, _, _]) ok_X6_moreTest rfl (by decide) q2453 q2455 qs61 (by rw [xtag_with, hM.1]; rfl) (by rw [xtag_with, hM.1]; rfl) dX6_takeSheet_79 rfl rfl (Nat.le_of_ble_eq_true rfl)) (SP_X6_moreTest hM (cntB (osP S) k) (by omega) tkS_m) ?_
      refine xw_iinc (v := nI (k + 1)) (l' := [(2, _), (0, _), (1, _)]) (pc := 82) dX6_takeSheet_82 0 rfl (nI_add _ 1) (by decide) rfl ?_
      refine xw_goto (pc := 85) 33 dX6_takeSheet_85 rfl ?_
      have h := ih (k + 1) (by omega) (by omega)
      rw [e9] at hb47
      first
        | (rw [show tkS S (k + 1) = tkS S k from if_neg (by simp [osP, hb47])] at h; exact h)
        | (rw [show tkS S (k + 1) = _ from if_pos (by simp [osP]; exact Int32.not_lt.mp hb47)] at h
           rw [e9]
           exact h)
theorem SP_X6_takeSheet_F {d : Nat} {g : xG} {m : Nat} {S : xMS} (hM : xMod g m) (rr : Nat) (hr : rr ≤ 16) (h1 : S 1 1 = nI rr) (v : Int32) (hv : ¬ inR v (nI 0) (nI rr - nI 1) = true) : XM M_X6_takeSheet (d + 2) [.ref m, .int v] (xWith g m S) (xOne (some (.int (nI 0))) (xWith g m (mset S 0 6 (nI 1)))) := by
  refine xm_of (by decide +kernel) (Nat.le_of_ble_eq_true rfl) ?_
  show XW _ _ 0 [(0, _), (1, _)] [] _ _
  refine xw_aload_n (pc := 0) dX6_takeSheet_0 0 rfl ?_
  refine xw_aload_n (pc := 1) dX6_takeSheet_1 0 rfl ?_
  refine xw_iload_n (pc := 2) dX6_takeSheet_2 1 rfl ?_
  refine xw_callV (pc := 3) (xr_V (as := [_]) ok_X6_isRule rfl (by decide) q2445 q2447 qs60 (by rw [xtag_with, hM.1]; rfl) (by rw [xtag_with, hM.1]; rfl) dX6_takeSheet_3 rfl rfl (Nat.le_of_ble_eq_true rfl)) (SP_X6_isRuleF hM rr h1 (by assumption)) ?_
  refine xw_if_eq (pc := 6) 13 dX6_takeSheet_6 rfl (fun _ => ?_) (fun hb => absurd hb (by decide))
  refine xw_iconst (v := nI 1) (pc := 13) dX6_takeSheet_13 rfl ?_
  refine xm_putI (pc := 14) hM fd_X6_62 (xfin_of (by decide) (by decide +kernel)) dX6_takeSheet_14 ?_
  refine xw_aload_n (pc := 17) dX6_takeSheet_17 0 rfl ?_
  refine xm_getN (k := 1) (pc := 18) hM fd_X6_62 dX6_takeSheet_18 (by first | rfl | (simp [mset, mcpy]; done)) ?_
  refine xw_if_le (pc := 21) 26 dX6_takeSheet_21 rfl (fun hb => absurd hb (by decide)) (fun _ => ?_)
  refine xw_iconst (v := nI 0) (pc := 24) dX6_takeSheet_24 rfl ?_
  refine xw_iret (pc := 25) .int dX6_takeSheet_25 rfl ?_ 
  exact ⟨rfl, rfl⟩
theorem SP_X6_takeSheet {d : Nat} {g : xG} {m : Nat} {S : xMS} (hM : xMod g m) (rr : Nat) (hr : rr ≤ 16) (h1 : S 1 1 = nI rr) (p : Nat) (hp : p ≤ 8) (hpm : S 0 5 = nI p) (r t : Nat) (hrr : r < rr) (ht : t ≤ 4) (h7 : S 1 (23 + 20 * r + 7) = nI t) (hW : WFsg S r t) (hsh : WFsh S) : XM M_X6_takeSheet (d + 6) [.ref m, .int (nI r)] (xWith g m S) (xOne (some (.int (opAddT (tkS S 6) r t (cntB (osP S) 6) p 2).1)) (xWith g m (opAddT (tkS S 6) r t (cntB (osP S) 6) p 2).2)) := by
  have e1 : (tkS S 6) 1 = S 1 := tkS_q (by decide) (by decide)
  have hcl := cntB_le (osP S) 6
  have hx := SP_X6_addTests (d := d) (S := tkS S 6) hM r t (cntB (osP S) 6) (by omega) ht (by rw [e1]; exact h7) (by unfold WFsg; rw [e1]; exact hW) (by omega) tkS_m (tkS_w hsh (by decide)) p hp (by rw [tkS_0 (by decide) (by decide)]; exact hpm) 2
  refine xm_of (by decide +kernel) (Nat.le_of_ble_eq_true rfl) ?_
  show XW _ _ 0 [(0, _), (1, _)] [] _ _
  refine xw_aload_n (pc := 0) dX6_takeSheet_0 0 rfl ?_
  refine xw_aload_n (pc := 1) dX6_takeSheet_1 0 rfl ?_
  refine xw_iload_n (pc := 2) dX6_takeSheet_2 1 rfl ?_
  refine xw_callV (pc := 3) (xr_V (as := [_]) ok_X6_isRule rfl (by decide) q2445 q2447 qs60 (by rw [xtag_with, hM.1]; rfl) (by rw [xtag_with, hM.1]; rfl) dX6_takeSheet_3 rfl rfl (Nat.le_of_ble_eq_true rfl)) (SP_X6_isRuleK hM r rr hr (by assumption) h1) ?_
  refine xw_if_eq (pc := 6) 13 dX6_takeSheet_6 rfl (fun hb => absurd hb (by decide)) (fun _ => ?_)
  refine xw_iconst (v := nI 0) (pc := 9) dX6_takeSheet_9 rfl ?_
  refine xw_goto (pc := 10) 14 dX6_takeSheet_10 rfl ?_
  refine xm_putI (pc := 14) hM fd_X6_62 (xfin_of (by decide) (by decide +kernel)) dX6_takeSheet_14 ?_
  refine xw_aload_n (pc := 17) dX6_takeSheet_17 0 rfl ?_
  refine xm_getN (k := 0) (pc := 18) hM fd_X6_62 dX6_takeSheet_18 (by first | rfl | (simp [mset, mcpy]; done)) ?_
  refine xw_if_le (pc := 21) 26 dX6_takeSheet_21 rfl (fun _ => ?_) (fun hb => absurd hb (by decide))
  refine xw_aload_n (pc := 26) dX6_takeSheet_26 0 rfl ?_
  refine xw_iconst (v := nI 0) (pc := 27) dX6_takeSheet_27 rfl ?_
  refine xm_putI (pc := 28) hM fd_X6_145 (xfin_of (by decide) (by decide +kernel)) dX6_takeSheet_28 ?_
  refine xw_iconst (v := nI 0) (pc := 31) dX6_takeSheet_31 rfl ?_
  refine xw_istore_n (l' := [(2, _), (0, _), (1, _)]) (pc := 32) dX6_takeSheet_32 rfl (by decide) rfl ?_
  refine lp_X6_takeSheet (S := S) hM ?_ 7 0 (by omega) (by omega)
  refine xw_aload_n (pc := 88) dX6_takeSheet_88 1 rfl ?_
  refine xw_iload_n (pc := 89) dX6_takeSheet_89 2 rfl ?_
  refine xw_iconst (v := nI 2) (pc := 90) dX6_takeSheet_90 rfl ?_
  refine xw_callV (pc := 91) (xr_V (as := [_, _]) ok_X6_addTests rfl (by decide) q2457 q2459 qs62 (by rw [xtag_with, hM.1]; rfl) (by rw [xtag_with, hM.1]; rfl) dX6_takeSheet_91 rfl rfl (Nat.le_of_ble_eq_true rfl)) (hx) ?_
  refine xw_iret (pc := 94) .int dX6_takeSheet_94 rfl ?_ 
  exact ⟨rfl, rfl⟩
def opReason (S : xMS) (b : Bool) : Int32 × xMS := if S 0 7 = 0 then (nI 0, mset S 0 6 (nI 1)) else (if b then S 0 8 else S 0 7, mset S 0 6 (nI 0))
theorem SP_X6_reason {d : Nat} {g : xG} {m : Nat} {S : xMS} (hM : xMod g m) (b : Bool) : XM M_X6_reason d [.ref m, .int (bI b)] (xWith g m S) (xOne (some (.int (opReason S b).1)) (xWith g m (opReason S b).2)) := by
  have e8 : mset S 0 6 (nI 0) 0 8 = S 0 8 := rfl
  have e7 : mset S 0 6 (nI 0) 0 7 = S 0 7 := rfl
  refine xm_of (by decide +kernel) (Nat.le_of_ble_eq_true rfl) ?_
  show XW _ _ 0 [(0, _), (1, _)] [] _ _
  refine xw_aload_n (pc := 0) dX6_reason_0 0 rfl ?_
  refine xw_aload_n (pc := 1) dX6_reason_1 0 rfl ?_
  refine xm_getI (pc := 2) hM fd_X6_74 dX6_reason_2 ?_
  refine xw_if_ne (pc := 5) 12 dX6_reason_5 rfl (fun hb5 => ?_) (fun hb5 => ?_)
  · refine xw_iconst (v := nI 0) (pc := 12) dX6_reason_12 rfl ?_
    refine xm_putI (pc := 13) hM fd_X6_62 (xfin_of (by decide) (by decide +kernel)) dX6_reason_13 ?_
    refine xw_aload_n (pc := 16) dX6_reason_16 0 rfl ?_
    refine xm_getN (k := 0) (pc := 17) hM fd_X6_62 dX6_reason_17 (by first | rfl | (simp [mset, mcpy]; done)) ?_
    refine xw_if_le (pc := 20) 27 dX6_reason_20 rfl (fun _ => ?_) (fun hb => absurd hb (by decide))
    refine xw_iload_n (pc := 27) dX6_reason_27 1 rfl ?_
    refine xw_if_eq (pc := 28) 38 dX6_reason_28 rfl (fun hb28 => ?_) (fun hb28 => ?_)
    · replace hb28 := bI_0.mp hb28
      refine xw_aload_n (pc := 38) dX6_reason_38 0 rfl ?_
      refine xm_getI (pc := 39) hM fd_X6_74 dX6_reason_39 ?_
      refine xw_iret (pc := 42) .int dX6_reason_42 rfl ?_ 
      try simp only [e7, e8]
      refine ⟨?_, ?_⟩ <;> simp_all [opReason]
    · replace hb28 := bI_n0.mp hb28
      refine xw_aload_n (pc := 31) dX6_reason_31 0 rfl ?_
      refine xm_getI (pc := 32) hM fd_X6_77 dX6_reason_32 ?_
      refine xw_goto (pc := 35) 42 dX6_reason_35 rfl ?_
      refine xw_iret (pc := 42) .int dX6_reason_42 rfl ?_ 
      try simp only [e7, e8]
      refine ⟨?_, ?_⟩ <;> simp_all [opReason]
  · refine xw_iconst (v := nI 1) (pc := 8) dX6_reason_8 rfl ?_
    refine xw_goto (pc := 9) 13 dX6_reason_9 rfl ?_
    refine xm_putI (pc := 13) hM fd_X6_62 (xfin_of (by decide) (by decide +kernel)) dX6_reason_13 ?_
    refine xw_aload_n (pc := 16) dX6_reason_16 0 rfl ?_
    refine xm_getN (k := 1) (pc := 17) hM fd_X6_62 dX6_reason_17 (by first | rfl | (simp [mset, mcpy]; done)) ?_
    refine xw_if_le (pc := 20) 27 dX6_reason_20 rfl (fun hb => absurd hb (by decide)) (fun _ => ?_)
    refine xw_iconst (v := nI 0) (pc := 23) dX6_reason_23 rfl ?_
    refine xw_goto (pc := 24) 42 dX6_reason_24 rfl ?_
    refine xw_iret (pc := 42) .int dX6_reason_42 rfl ?_ 
    try simp only [e7, e8]
    refine ⟨?_, ?_⟩ <;> simp_all [opReason]
def opFault (S : xMS) : Int32 × xMS := if ¬ 0 ≤ S 0 25 then (nI 0, mset S 0 6 (nI 1)) else (S 0 25, mset S 0 6 (nI 0))
theorem SP_X6_faultPosition {d : Nat} {g : xG} {m : Nat} {S : xMS} (hM : xMod g m) : XM M_X6_faultPosition d [.ref m] (xWith g m S) (xOne (some (.int (opFault S).1)) (xWith g m (opFault S).2)) := by
  have e7 : mset S 0 6 (nI 0) 0 25 = S 0 25 := rfl
  refine xm_of (by decide +kernel) (Nat.le_of_ble_eq_true rfl) ?_
  show XW _ _ 0 [(0, _)] [] _ _
  refine xw_aload_n (pc := 0) dX6_faultPosition_0 0 rfl ?_
  refine xw_aload_n (pc := 1) dX6_faultPosition_1 0 rfl ?_
  refine xm_getI (pc := 2) hM fd_X6_56 dX6_faultPosition_2 ?_
  refine xw_if_ge (pc := 5) 12 dX6_faultPosition_5 rfl (fun hb5 => ?_) (fun hb5 => ?_)
  · refine xw_iconst (v := nI 0) (pc := 12) dX6_faultPosition_12 rfl ?_
    refine xm_putI (pc := 13) hM fd_X6_62 (xfin_of (by decide) (by decide +kernel)) dX6_faultPosition_13 ?_
    refine xw_aload_n (pc := 16) dX6_faultPosition_16 0 rfl ?_
    refine xm_getN (k := 0) (pc := 17) hM fd_X6_62 dX6_faultPosition_17 (by first | rfl | (simp [mset, mcpy]; done)) ?_
    refine xw_if_le (pc := 20) 27 dX6_faultPosition_20 rfl (fun _ => ?_) (fun hb => absurd hb (by decide))
    refine xw_aload_n (pc := 27) dX6_faultPosition_27 0 rfl ?_
    refine xm_getI (pc := 28) hM fd_X6_56 dX6_faultPosition_28 ?_
    refine xw_iret (pc := 31) .int dX6_faultPosition_31 rfl ?_ 
    unfold opFault
    first
      | (rw [if_pos hb5]; exact ⟨rfl, rfl⟩)
      | (rw [if_neg (fun q => q hb5), e7]; exact ⟨rfl, rfl⟩)
  · refine xw_iconst (v := nI 1) (pc := 8) dX6_faultPosition_8 rfl ?_
    refine xw_goto (pc := 9) 13 dX6_faultPosition_9 rfl ?_
    refine xm_putI (pc := 13) hM fd_X6_62 (xfin_of (by decide) (by decide +kernel)) dX6_faultPosition_13 ?_
    refine xw_aload_n (pc := 16) dX6_faultPosition_16 0 rfl ?_
    refine xm_getN (k := 1) (pc := 17) hM fd_X6_62 dX6_faultPosition_17 (by first | rfl | (simp [mset, mcpy]; done)) ?_
    refine xw_if_le (pc := 20) 27 dX6_faultPosition_20 rfl (fun hb => absurd hb (by decide)) (fun _ => ?_)
    refine xw_iconst (v := nI 0) (pc := 23) dX6_faultPosition_23 rfl ?_
    refine xw_goto (pc := 24) 31 dX6_faultPosition_24 rfl ?_
    refine xw_iret (pc := 31) .int dX6_faultPosition_31 rfl ?_ 
    unfold opFault
    first
      | (rw [if_pos hb5]; exact ⟨rfl, rfl⟩)
      | (rw [if_neg (fun q => q hb5), e7]; exact ⟨rfl, rfl⟩)
def opUndo (S : xMS) (p : Nat) : Int32 × xMS := if p = 0 then (nI 0, mset S 0 6 (nI 1)) else (nI (p - 1), mcpy (mset (mset S 0 6 (nI 0)) 0 5 (nI (p - 1))) 4 1 (391 * (p - 1)) 0 391)
def opRestore (S : xMS) (b : Bool) : Int32 × xMS := if b = false then (nI 0, mset S 0 6 (nI 1)) else (S 3 1, mset (mcpy (mset S 0 6 (nI 0)) 3 1 0 0 391) 0 5 (nI 0))
theorem SP_X6_undo {d : Nat} {g : xG} {m : Nat} {S : xMS} (hM : xMod g m) (p : Nat) (hp : p ≤ 8) (hpm : S 0 5 = nI p) : XM M_X6_undo (d + 1) [.ref m] (xWith g m S) (xOne (some (.int (opUndo S p).1)) (xWith g m (opUndo S p).2)) := by
  refine xm_of (by decide +kernel) (Nat.le_of_ble_eq_true rfl) ?_
  show XW _ _ 0 [(0, _)] [] _ _
  refine xw_aload_n (pc := 0) dX6_undo_0 0 rfl ?_
  refine xw_aload_n (pc := 1) dX6_undo_1 0 rfl ?_
  refine xm_getN (k := p) (pc := 2) hM fd_X6_71 dX6_undo_2 (by exact hpm) ?_
  refine xw_if_ne (pc := 5) 12 dX6_undo_5 rfl (fun hb5 => ?_) (fun hb5 => ?_)
  · replace hb5 : ¬ (p = 0) := mt (nI_eq (a := p) (b := 0) (by omega) (by omega)).mpr hb5
    refine xw_iconst (v := nI 0) (pc := 12) dX6_undo_12 rfl ?_
    refine xm_putI (pc := 13) hM fd_X6_62 (xfin_of (by decide) (by decide +kernel)) dX6_undo_13 ?_
    refine xw_aload_n (pc := 16) dX6_undo_16 0 rfl ?_
    refine xm_getN (k := 0) (pc := 17) hM fd_X6_62 dX6_undo_17 (by first | rfl | (simp [mset, mcpy]; done)) ?_
    refine xw_if_le (pc := 20) 25 dX6_undo_20 rfl (fun _ => ?_) (fun hb => absurd hb (by decide))
    refine xw_aload_n (pc := 25) dX6_undo_25 0 rfl ?_
    refine xw_dup (pc := 26) dX6_undo_26 rfl ?_
    refine xm_getN (k := p) (pc := 27) hM fd_X6_71 dX6_undo_27 (by exact hpm) ?_
    refine xw_iconst (v := nI 1) (pc := 30) dX6_undo_30 rfl ?_
    refine xn_isub (pc := 31) dX6_undo_31 (by omega) ?_
    refine xm_putI (pc := 32) hM fd_X6_71 (xfin_of (by decide) (by decide +kernel)) dX6_undo_32 ?_
    refine xw_aload_n (pc := 35) dX6_undo_35 0 rfl ?_
    refine xm_get (p := 4) (pc := 36) hM fd_X6_19 dX6_undo_36 rfl ?_
    refine xw_sipush (v := nI 391) (pc := 39) dX6_undo_39 (by decide +kernel) ?_
    refine xw_aload_n (pc := 42) dX6_undo_42 0 rfl ?_
    refine xm_getN (k := (p - 1)) (pc := 43) hM fd_X6_71 dX6_undo_43 (by first | rfl | (simp [mset, mcpy]; done)) ?_
    refine xn_imul (pc := 46) dX6_undo_46 ?_
    refine xw_aload_n (pc := 47) dX6_undo_47 0 rfl ?_
    refine xm_get (p := 1) (pc := 48) hM fd_X6_9 dX6_undo_48 rfl ?_
    refine xw_iconst (v := nI 0) (pc := 51) dX6_undo_51 rfl ?_
    refine xw_sipush (v := nI 391) (pc := 52) dX6_undo_52 (by decide +kernel) ?_
    refine xm_copy (pc := 55) hM dX6_undo_55 q2371 rfl rfl (by decide) (by omega) (by omega) (Nat.le_of_ble_eq_true rfl) ?_
    refine xw_aload_n (pc := 58) dX6_undo_58 0 rfl ?_
    refine xm_getN (k := (p - 1)) (pc := 59) hM fd_X6_71 dX6_undo_59 (by first | rfl | (simp [mset, mcpy]; done)) ?_
    refine xw_iret (pc := 62) .int dX6_undo_62 rfl ?_ 
    refine ⟨?_, ?_⟩ <;> simp_all [opUndo]
  · replace hb5 : p = 0 := (nI_eq (a := p) (b := 0) (by omega) (by omega)).mp hb5
    refine xw_iconst (v := nI 1) (pc := 8) dX6_undo_8 rfl ?_
    refine xw_goto (pc := 9) 13 dX6_undo_9 rfl ?_
    refine xm_putI (pc := 13) hM fd_X6_62 (xfin_of (by decide) (by decide +kernel)) dX6_undo_13 ?_
    refine xw_aload_n (pc := 16) dX6_undo_16 0 rfl ?_
    refine xm_getN (k := 1) (pc := 17) hM fd_X6_62 dX6_undo_17 (by first | rfl | (simp [mset, mcpy]; done)) ?_
    refine xw_if_le (pc := 20) 25 dX6_undo_20 rfl (fun hb => absurd hb (by decide)) (fun _ => ?_)
    refine xw_iconst (v := nI 0) (pc := 23) dX6_undo_23 rfl ?_
    refine xw_iret (pc := 24) .int dX6_undo_24 rfl ?_ 
    refine ⟨?_, ?_⟩ <;> simp_all [opUndo]
theorem SP_X6_save {d : Nat} {g : xG} {m : Nat} {S : xMS} (hM : xMod g m) : XM M_X6_save (d + 1) [.ref m] (xWith g m S) (xOne (some (.int (S 1 1))) (xWith g m (mset (mcpy (mset S 0 6 (nI 0)) 1 3 0 0 391) 0 3 (nI 1)))) := by
  refine xm_of (by decide +kernel) (Nat.le_of_ble_eq_true rfl) ?_
  show XW _ _ 0 [(0, _)] [] _ _
  refine xw_aload_n (pc := 0) dX6_save_0 0 rfl ?_
  refine xw_iconst (v := nI 0) (pc := 1) dX6_save_1 rfl ?_
  refine xm_putI (pc := 2) hM fd_X6_62 (xfin_of (by decide) (by decide +kernel)) dX6_save_2 ?_
  refine xw_aload_n (pc := 5) dX6_save_5 0 rfl ?_
  refine xm_get (p := 1) (pc := 6) hM fd_X6_9 dX6_save_6 rfl ?_
  refine xw_iconst (v := nI 0) (pc := 9) dX6_save_9 rfl ?_
  refine xw_aload_n (pc := 10) dX6_save_10 0 rfl ?_
  refine xm_get (p := 3) (pc := 11) hM fd_X6_16 dX6_save_11 rfl ?_
  refine xw_iconst (v := nI 0) (pc := 14) dX6_save_14 rfl ?_
  refine xw_sipush (v := nI 391) (pc := 15) dX6_save_15 (by decide +kernel) ?_
  refine xm_copy (pc := 18) hM dX6_save_18 q2371 rfl rfl (by decide) (by omega) (by omega) (Nat.le_of_ble_eq_true rfl) ?_
  refine xw_aload_n (pc := 21) dX6_save_21 0 rfl ?_
  refine xw_iconst (v := nI 1) (pc := 22) dX6_save_22 rfl ?_
  refine xm_putI (pc := 23) hM fd_X6_362 (xfin_of (by decide) (by decide +kernel)) dX6_save_23 ?_
  refine xw_aload_n (pc := 26) dX6_save_26 0 rfl ?_
  refine xm_get (p := 1) (pc := 27) hM fd_X6_9 dX6_save_27 rfl ?_
  refine xw_iconst (v := nI 1) (pc := 30) dX6_save_30 rfl ?_
  refine xm_iald (pc := 31) hM dX6_save_31 rfl (by omega) ?_
  refine xw_iret (pc := 32) .int dX6_save_32 rfl ?_ 
  exact ⟨rfl, rfl⟩
theorem SP_X6_restore {d : Nat} {g : xG} {m : Nat} {S : xMS} (hM : xMod g m) (b : Bool) (hb : S 0 3 = bI b) : XM M_X6_restore (d + 1) [.ref m] (xWith g m S) (xOne (some (.int (opRestore S b).1)) (xWith g m (opRestore S b).2)) := by
  refine xm_of (by decide +kernel) (Nat.le_of_ble_eq_true rfl) ?_
  show XW _ _ 0 [(0, _)] [] _ _
  refine xw_aload_n (pc := 0) dX6_restore_0 0 rfl ?_
  refine xw_aload_n (pc := 1) dX6_restore_1 0 rfl ?_
  refine xm_getB (b := b) (pc := 2) hM fd_X6_362 dX6_restore_2 (by exact hb) ?_
  refine xw_if_eq (pc := 5) 12 dX6_restore_5 rfl (fun hb5 => ?_) (fun hb5 => ?_)
  · replace hb5 := bI_0.mp hb5
    refine xw_iconst (v := nI 1) (pc := 12) dX6_restore_12 rfl ?_
    refine xm_putI (pc := 13) hM fd_X6_62 (xfin_of (by decide) (by decide +kernel)) dX6_restore_13 ?_
    refine xw_aload_n (pc := 16) dX6_restore_16 0 rfl ?_
    refine xm_getN (k := 1) (pc := 17) hM fd_X6_62 dX6_restore_17 (by first | rfl | (simp [mset, mcpy]; done)) ?_
    refine xw_if_le (pc := 20) 25 dX6_restore_20 rfl (fun hb => absurd hb (by decide)) (fun _ => ?_)
    refine xw_iconst (v := nI 0) (pc := 23) dX6_restore_23 rfl ?_
    refine xw_iret (pc := 24) .int dX6_restore_24 rfl ?_ 
    refine ⟨?_, ?_⟩ <;> simp_all [opRestore, mset, mcpy, va_cpy]
  · replace hb5 := bI_n0.mp hb5
    refine xw_iconst (v := nI 0) (pc := 8) dX6_restore_8 rfl ?_
    refine xw_goto (pc := 9) 13 dX6_restore_9 rfl ?_
    refine xm_putI (pc := 13) hM fd_X6_62 (xfin_of (by decide) (by decide +kernel)) dX6_restore_13 ?_
    refine xw_aload_n (pc := 16) dX6_restore_16 0 rfl ?_
    refine xm_getN (k := 0) (pc := 17) hM fd_X6_62 dX6_restore_17 (by first | rfl | (simp [mset, mcpy]; done)) ?_
    refine xw_if_le (pc := 20) 25 dX6_restore_20 rfl (fun _ => ?_) (fun hb => absurd hb (by decide))
    refine xw_aload_n (pc := 25) dX6_restore_25 0 rfl ?_
    refine xm_get (p := 3) (pc := 26) hM fd_X6_16 dX6_restore_26 rfl ?_
    refine xw_iconst (v := nI 0) (pc := 29) dX6_restore_29 rfl ?_
    refine xw_aload_n (pc := 30) dX6_restore_30 0 rfl ?_
    refine xm_get (p := 1) (pc := 31) hM fd_X6_9 dX6_restore_31 rfl ?_
    refine xw_iconst (v := nI 0) (pc := 34) dX6_restore_34 rfl ?_
    refine xw_sipush (v := nI 391) (pc := 35) dX6_restore_35 (by decide +kernel) ?_
    refine xm_copy (pc := 38) hM dX6_restore_38 q2371 rfl rfl (by decide) (by omega) (by omega) (Nat.le_of_ble_eq_true rfl) ?_
    refine xw_aload_n (pc := 41) dX6_restore_41 0 rfl ?_
    refine xw_iconst (v := nI 0) (pc := 42) dX6_restore_42 rfl ?_
    refine xm_putI (pc := 43) hM fd_X6_71 (xfin_of (by decide) (by decide +kernel)) dX6_restore_43 ?_
    refine xw_aload_n (pc := 46) dX6_restore_46 0 rfl ?_
    refine xm_get (p := 1) (pc := 47) hM fd_X6_9 dX6_restore_47 rfl ?_
    refine xw_iconst (v := nI 1) (pc := 50) dX6_restore_50 rfl ?_
    refine xm_iald (pc := 51) hM dX6_restore_51 rfl (by omega) ?_
    refine xw_iret (pc := 52) .int dX6_restore_52 rfl ?_ 
    refine ⟨?_, ?_⟩ <;> simp_all [opRestore, mset, mcpy, va_cpy]
def opAppend (S : xMS) (ln : Nat) (c : Int32) : Int32 × xMS := if ln = 60 then (nI 0, mset S 0 6 (nI 1)) else (nI (ln + 1), mset (mset (mset S 0 6 (nI 0)) 12 ln c) 0 22 (nI (ln + 1)))
/-- a char -/
def isCh (c : Int32) : Prop := narrow .char (.int c) = .int c ∧ fits .char (.int c) = true
theorem SP_X6_append {d : Nat} {g : xG} {m : Nat} {S : xMS} (hM : xMod g m) (ln : Nat) (hln : ln ≤ 60) (h22 : S 0 22 = nI ln) (c : Int32) (hc : isCh c) : XM M_X6_append d [.ref m, .int c] (xWith g m S) (xOne (some (.int (opAppend S ln c).1)) (xWith g m (opAppend S ln c).2)) := by
  refine xm_of (by decide +kernel) (Nat.le_of_ble_eq_true rfl) ?_
  show XW _ _ 0 [(0, _), (1, _)] [] _ _
  refine xw_aload_n (pc := 0) dX6_append_0 0 rfl ?_
  refine xw_aload_n (pc := 1) dX6_append_1 0 rfl ?_
  refine xm_getN (k := ln) (pc := 2) hM fd_X6_252 dX6_append_2 (by first | exact h22 | (rw [mset_q (by decide)]; exact h22)) ?_
  refine xw_bipush (v := nI 60) (pc := 5) dX6_append_5 (by decide +kernel) ?_
  refine xw_icmp_ne (pc := 7) 14 dX6_append_7 rfl (fun hb7 => ?_) (fun hb7 => ?_)
  · replace hb7 : ¬ (ln = 60) := mt (nI_eq (a := ln) (b := 60) (by omega) (by omega)).mpr hb7
    refine xw_iconst (v := nI 0) (pc := 14) dX6_append_14 rfl ?_
    refine xm_putI (pc := 15) hM fd_X6_62 (xfin_of (by decide) (by decide +kernel)) dX6_append_15 ?_
    refine xw_aload_n (pc := 18) dX6_append_18 0 rfl ?_
    refine xm_getN (k := 0) (pc := 19) hM fd_X6_62 dX6_append_19 (by first | rfl | (simp [mset, mcpy]; done)) ?_
    refine xw_if_le (pc := 22) 27 dX6_append_22 rfl (fun _ => ?_) (fun hb => absurd hb (by decide))
    refine xw_aload_n (pc := 27) dX6_append_27 0 rfl ?_
    refine xm_get (p := 12) (pc := 28) hM fd_X6_52 dX6_append_28 rfl ?_
    refine xw_aload_n (pc := 31) dX6_append_31 0 rfl ?_
    refine xm_getN (k := ln) (pc := 32) hM fd_X6_252 dX6_append_32 (by first | exact h22 | (rw [mset_q (by decide)]; exact h22)) ?_
    refine xw_iload_n (pc := 35) dX6_append_35 1 rfl ?_
    refine xm_cast (pc := 36) hM dX6_append_36 rfl (by omega) (by exact hc.1) (by exact hc.2) ?_
    refine xw_aload_n (pc := 37) dX6_append_37 0 rfl ?_
    refine xw_dup (pc := 38) dX6_append_38 rfl ?_
    refine xm_getN (k := ln) (pc := 39) hM fd_X6_252 dX6_append_39 (by first | exact h22 | (rw [mset_q (by decide)]; exact h22)) ?_
    refine xw_iconst (v := nI 1) (pc := 42) dX6_append_42 rfl ?_
    refine xn_iadd (pc := 43) dX6_append_43 ?_
    refine xm_putI (pc := 44) hM fd_X6_252 (xfin_of (by decide) (by decide +kernel)) dX6_append_44 ?_
    refine xw_aload_n (pc := 47) dX6_append_47 0 rfl ?_
    refine xm_getN (k := (ln + 1)) (pc := 48) hM fd_X6_252 dX6_append_48 (by first | rfl | (simp [mset, mcpy]; done)) ?_
    refine xw_iret (pc := 51) .int dX6_append_51 rfl ?_ 
    refine ⟨?_, ?_⟩ <;> simp_all [opAppend]
  · replace hb7 : ln = 60 := (nI_eq (a := ln) (b := 60) (by omega) (by omega)).mp hb7
    refine xw_iconst (v := nI 1) (pc := 10) dX6_append_10 rfl ?_
    refine xw_goto (pc := 11) 15 dX6_append_11 rfl ?_
    refine xm_putI (pc := 15) hM fd_X6_62 (xfin_of (by decide) (by decide +kernel)) dX6_append_15 ?_
    refine xw_aload_n (pc := 18) dX6_append_18 0 rfl ?_
    refine xm_getN (k := 1) (pc := 19) hM fd_X6_62 dX6_append_19 (by first | rfl | (simp [mset, mcpy]; done)) ?_
    refine xw_if_le (pc := 22) 27 dX6_append_22 rfl (fun hb => absurd hb (by decide)) (fun _ => ?_)
    refine xw_iconst (v := nI 0) (pc := 25) dX6_append_25 rfl ?_
    refine xw_iret (pc := 26) .int dX6_append_26 rfl ?_ 
    refine ⟨?_, ?_⟩ <;> simp_all [opAppend]
theorem SP_X6_character_F {d : Nat} {g : xG} {m : Nat} {S : xMS} (hM : xMod g m) (lm : Nat) (h33 : S 0 33 = nI lm) (v : Int32) (hv : ¬ inR v (nI 0) (nI lm - nI 1) = true) : XM M_X6_character (d + 1) [.ref m, .int v] (xWith g m S) (xOne (some (.int (nI 32))) (xWith g m (mset S 0 6 (nI 1)))) := by
  refine xm_of (by decide +kernel) (Nat.le_of_ble_eq_true rfl) ?_
  show XW _ _ 0 [(0, _), (1, _)] [] _ _
  refine xw_aload_n (pc := 0) dX6_character_0 0 rfl ?_
  refine xw_iload_n (pc := 1) dX6_character_1 1 rfl ?_
  refine xw_iconst (v := nI 0) (pc := 2) dX6_character_2 rfl ?_
  refine xw_aload_n (pc := 3) dX6_character_3 0 rfl ?_
  refine xm_getN (k := lm) (pc := 4) hM fd_X6_317 dX6_character_4 (by exact h33) ?_
  refine xw_iconst (v := nI 1) (pc := 7) dX6_character_7 rfl ?_
  refine xw_isub (pc := 8) dX6_character_8 ?_
  refine xw_callV (pc := 9) (xr_S (as := [_, _, _]) ok_X6_in rfl (by decide) q2364 q2365 dX6_character_9 rfl rfl (Nat.le_of_ble_eq_true rfl)) (SP_X6_inF (by assumption)) ?_
  refine xw_if_eq (pc := 12) 19 dX6_character_12 rfl (fun _ => ?_) (fun hb => absurd hb (by decide))
  refine xw_iconst (v := nI 1) (pc := 19) dX6_character_19 rfl ?_
  refine xm_putI (pc := 20) hM fd_X6_62 (xfin_of (by decide) (by decide +kernel)) dX6_character_20 ?_
  refine xw_aload_n (pc := 23) dX6_character_23 0 rfl ?_
  refine xm_getN (k := 1) (pc := 24) hM fd_X6_62 dX6_character_24 (by first | rfl | (simp [mset, mcpy]; done)) ?_
  refine xw_if_le (pc := 27) 35 dX6_character_27 rfl (fun hb => absurd hb (by decide)) (fun _ => ?_)
  refine xw_bipush (v := nI 32) (pc := 30) dX6_character_30 (by decide +kernel) ?_
  refine xw_goto (pc := 32) 41 dX6_character_32 rfl ?_
  refine xw_iret (pc := 41) .char dX6_character_41 rfl ?_ (by rfl)
  exact ⟨rfl, rfl⟩
theorem SP_X6_character {d : Nat} {g : xG} {m : Nat} {S : xMS} (hM : xMod g m) (lm : Nat) (hlm : lm ≤ 200) (h33 : S 0 33 = nI lm) (hch : ∀ j, j < lm → isCh (S 13 j)) (j : Nat) (hj : j < lm) : XM M_X6_character (d + 1) [.ref m, .int (nI j)] (xWith g m S) (xOne (some (.int (S 13 j))) (xWith g m (mset S 0 6 (nI 0)))) := by
  have hi1 := inR_k (n := lm) (k := j) (by omega) hj
  refine xm_of (by decide +kernel) (Nat.le_of_ble_eq_true rfl) ?_
  show XW _ _ 0 [(0, _), (1, _)] [] _ _
  refine xw_aload_n (pc := 0) dX6_character_0 0 rfl ?_
  refine xw_iload_n (pc := 1) dX6_character_1 1 rfl ?_
  refine xw_iconst (v := nI 0) (pc := 2) dX6_character_2 rfl ?_
  refine xw_aload_n (pc := 3) dX6_character_3 0 rfl ?_
  refine xm_getN (k := lm) (pc := 4) hM fd_X6_317 dX6_character_4 (by exact h33) ?_
  refine xw_iconst (v := nI 1) (pc := 7) dX6_character_7 rfl ?_
  refine xw_isub (pc := 8) dX6_character_8 ?_
  refine xw_callV (pc := 9) (xr_S (as := [_, _, _]) ok_X6_in rfl (by decide) q2364 q2365 dX6_character_9 rfl rfl (Nat.le_of_ble_eq_true rfl)) (SP_X6_inT (by assumption)) ?_
  refine xw_if_eq (pc := 12) 19 dX6_character_12 rfl (fun hb => absurd hb (by decide)) (fun _ => ?_)
  refine xw_iconst (v := nI 0) (pc := 15) dX6_character_15 rfl ?_
  refine xw_goto (pc := 16) 20 dX6_character_16 rfl ?_
  refine xm_putI (pc := 20) hM fd_X6_62 (xfin_of (by decide) (by decide +kernel)) dX6_character_20 ?_
  refine xw_aload_n (pc := 23) dX6_character_23 0 rfl ?_
  refine xm_getN (k := 0) (pc := 24) hM fd_X6_62 dX6_character_24 (by first | rfl | (simp [mset, mcpy]; done)) ?_
  refine xw_if_le (pc := 27) 35 dX6_character_27 rfl (fun _ => ?_) (fun hb => absurd hb (by decide))
  refine xw_aload_n (pc := 35) dX6_character_35 0 rfl ?_
  refine xm_get (p := 13) (pc := 36) hM fd_X6_59 dX6_character_36 rfl ?_
  refine xw_iload_n (pc := 39) dX6_character_39 1 rfl ?_
  refine xm_cald (pc := 40) hM dX6_character_40 rfl (by omega) ?_
  refine xw_iret (pc := 41) .char dX6_character_41 rfl ?_ (by exact (hch j hj).1)
  exact ⟨rfl, rfl⟩
def sumT (s : Nat → Int32) : Nat → Int32
  | 0 => nI 0
  | k + 1 => sumT s k + s (23 + 20 * k + 7)
def maxD (s : Nat → Int32) : Nat → Int32
  | 0 => -1
  | k + 1 => if maxD s k < nI (rdep s k) then nI (rdep s k) else maxD s k
def ovr (S : xMS) (x : Nat) (k : Nat) : Int32 := if x = 2 then nI (cntB (isMa (S 1)) k) else if x = 3 then sumT (S 1) k else maxD (S 1) k
theorem lp_X6_overRules {d : Nat} {g : xG} {m : Nat} {S : xMS} (hM : xMod g m) (rr x : Nat) (hr : rr ≤ 16) (h1 : S 1 1 = nI rr) (hWp : WFp (S 1) rr) (hx2 : 2 ≤ x) (hx4 : x ≤ 4) : ∀ (j k : Nat), rr - k < j → k ≤ rr → XW M_X6_overRules (d + 3) 13 [(3, .int (nI k)), (2, .int (ovr S x k)), (0, .ref m), (1, .int (nI x))] [] (xWith g m S) (xOne (some (.int (ovr S x rr))) (xWith g m S)) := by
  intro j
  induction j with
  | zero => intro k h; omega
  | succ j ih =>
  intro k hj hk
  have hcl := cntB_le (isMa (S 1)) k
  refine xw_iload_n (pc := 13) dX6_overRules_13 0 rfl ?_
  refine xw_aload_n (pc := 14) dX6_overRules_14 2 rfl ?_
  refine xm_get (p := 1) (pc := 15) hM fd_X6_9 dX6_overRules_15 rfl ?_
  refine xw_iconst (v := nI 1) (pc := 18) dX6_overRules_18 rfl ?_
  refine xm_ialdN (v := rr) (pc := 19) hM dX6_overRules_19 rfl (by omega) (by exact h1) ?_
  refine xw_icmp_ge (pc := 20) 80 dX6_overRules_20 rfl (fun hb20 => ?_) (fun hb20 => ?_)
  · replace hb20 : rr ≤ k := (nI_leI (a := rr) (b := k) (by omega) (by omega)).mp hb20
    refine xw_iload_n (pc := 80) dX6_overRules_80 1 rfl ?_
    refine xw_iret (pc := 81) .int dX6_overRules_81 rfl ?_ 
    obtain rfl : k = rr := by omega
    exact ⟨rfl, rfl⟩
  · replace hb20 : ¬ (rr ≤ k) := mt (nI_leI (a := rr) (b := k) (by omega) (by omega)).mpr hb20
    refine xw_iload_n (pc := 23) dX6_overRules_23 3 rfl ?_
    refine xw_iconst (v := nI 2) (pc := 24) dX6_overRules_24 rfl ?_
    refine xw_icmp_ne (pc := 25) 47 dX6_overRules_25 rfl (fun hb25 => ?_) (fun hb25 => ?_)
    · replace hb25 : ¬ (x = 2) := mt (nI_eq (a := x) (b := 2) (by omega) (by omega)).mpr hb25
      refine xw_iload_n (pc := 47) dX6_overRules_47 3 rfl ?_
      refine xw_iconst (v := nI 3) (pc := 48) dX6_overRules_48 rfl ?_
      refine xw_icmp_ne (pc := 49) 64 dX6_overRules_49 rfl (fun hb49 => ?_) (fun hb49 => ?_)
      · replace hb49 : ¬ (x = 3) := mt (nI_eq (a := x) (b := 3) (by omega) (by omega)).mpr hb49
        refine xw_iload_n (pc := 64) dX6_overRules_64 1 rfl ?_
        refine xw_aload_n (pc := 65) dX6_overRules_65 2 rfl ?_
        refine xw_iload_n (pc := 66) dX6_overRules_66 0 rfl ?_
        refine xw_callV (pc := 67) (xr_V (as := [_]) ok_X6_depthOfRule rfl (by decide) q2429 q2431 qs57 (by rw [xtag_with, hM.1]; rfl) (by rw [xtag_with, hM.1]; rfl) dX6_overRules_67 rfl rfl (Nat.le_of_ble_eq_true rfl)) (SP_X6_depthOfRule hM hWp hr k (by omega)) ?_
        refine xw_mmax (pc := 70) dX6_overRules_70 q2749 q106 (Nat.le_of_ble_eq_true rfl) ?_
        refine xw_istore_n (l' := [(2, _), (3, _), (0, _), (1, _)]) (pc := 73) dX6_overRules_73 rfl (by decide) rfl ?_
        refine xw_iinc (v := nI (k + 1)) (l' := [(3, _), (2, _), (0, _), (1, _)]) (pc := 74) dX6_overRules_74 1 rfl (nI_add _ 1) (by decide) rfl ?_
        refine xw_goto (pc := 77) 13 dX6_overRules_77 rfl ?_
        have h := ih (k + 1) (by omega) (by omega)
        first
          | (subst hb25
             have e0 : ovr S 2 k = nI (cntB (isMa (S 1)) k) := rfl
             have e1 : ovr S 2 (k + 1) = nI (cntB (isMa (S 1)) (k + 1)) := rfl
             first
               | (rw [e1, cntB_t (show isMa (S 1) k = true by simp [isMa]; exact Int32.not_le.mp hb35), ← nI_add (cntB (isMa (S 1)) k) 1, ← e0] at h; exact h)
               | (rw [e1, cntB_f (show isMa (S 1) k = false by simp [isMa]; exact hb35), ← nI_add (cntB (isMa (S 1)) k) 0, ← e0] at h; exact h))
          | (subst hb49
             exact h)
          | (obtain rfl : x = 4 := by omega
             exact h)
      · replace hb49 : x = 3 := (nI_eq (a := x) (b := 3) (by omega) (by omega)).mp hb49
        refine xw_iload_n (pc := 52) dX6_overRules_52 1 rfl ?_
        refine xw_aload_n (pc := 53) dX6_overRules_53 2 rfl ?_
        refine xw_iload_n (pc := 54) dX6_overRules_54 0 rfl ?_
        refine xw_bipush (v := nI 7) (pc := 55) dX6_overRules_55 (by decide +kernel) ?_
        refine xw_callV (pc := 57) (xr_V (as := [_, _]) ok_X6_of rfl (by decide) q2396 q2398 qs53 (by rw [xtag_with, hM.1]; rfl) (by rw [xtag_with, hM.1]; rfl) dX6_overRules_57 rfl rfl (Nat.le_of_ble_eq_true rfl)) (SP_X6_of hM (k) (7) (by omega)) ?_
        refine xw_iadd (pc := 60) dX6_overRules_60 ?_
        refine xw_goto (pc := 61) 73 dX6_overRules_61 rfl ?_
        refine xw_istore_n (l' := [(2, _), (3, _), (0, _), (1, _)]) (pc := 73) dX6_overRules_73 rfl (by decide) rfl ?_
        refine xw_iinc (v := nI (k + 1)) (l' := [(3, _), (2, _), (0, _), (1, _)]) (pc := 74) dX6_overRules_74 1 rfl (nI_add _ 1) (by decide) rfl ?_
        refine xw_goto (pc := 77) 13 dX6_overRules_77 rfl ?_
        have h := ih (k + 1) (by omega) (by omega)
        first
          | (subst hb25
             have e0 : ovr S 2 k = nI (cntB (isMa (S 1)) k) := rfl
             have e1 : ovr S 2 (k + 1) = nI (cntB (isMa (S 1)) (k + 1)) := rfl
             first
               | (rw [e1, cntB_t (show isMa (S 1) k = true by simp [isMa]; exact Int32.not_le.mp hb35), ← nI_add (cntB (isMa (S 1)) k) 1, ← e0] at h; exact h)
               | (rw [e1, cntB_f (show isMa (S 1) k = false by simp [isMa]; exact hb35), ← nI_add (cntB (isMa (S 1)) k) 0, ← e0] at h; exact h))
          | (subst hb49
             exact h)
          | (obtain rfl : x = 4 := by omega
             exact h)
    · replace hb25 : x = 2 := (nI_eq (a := x) (b := 2) (by omega) (by omega)).mp hb25
      refine xw_iload_n (pc := 28) dX6_overRules_28 1 rfl ?_
      refine xw_aload_n (pc := 29) dX6_overRules_29 2 rfl ?_
      refine xw_iload_n (pc := 30) dX6_overRules_30 0 rfl ?_
      refine xw_iconst (v := nI 5) (pc := 31) dX6_overRules_31 rfl ?_
      refine xw_callV (pc := 32) (xr_V (as := [_, _]) ok_X6_of rfl (by decide) q2396 q2398 qs53 (by rw [xtag_with, hM.1]; rfl) (by rw [xtag_with, hM.1]; rfl) dX6_overRules_32 rfl rfl (Nat.le_of_ble_eq_true rfl)) (SP_X6_of hM (k) (5) (by omega)) ?_
      refine xw_if_ge (pc := 35) 42 dX6_overRules_35 rfl (fun hb35 => ?_) (fun hb35 => ?_)
      · refine xw_iconst (v := nI 0) (pc := 42) dX6_overRules_42 rfl ?_
        refine xw_iadd (pc := 43) dX6_overRules_43 ?_
        refine xw_goto (pc := 44) 73 dX6_overRules_44 rfl ?_
        refine xw_istore_n (l' := [(2, _), (3, _), (0, _), (1, _)]) (pc := 73) dX6_overRules_73 rfl (by decide) rfl ?_
        refine xw_iinc (v := nI (k + 1)) (l' := [(3, _), (2, _), (0, _), (1, _)]) (pc := 74) dX6_overRules_74 1 rfl (nI_add _ 1) (by decide) rfl ?_
        refine xw_goto (pc := 77) 13 dX6_overRules_77 rfl ?_
        have h := ih (k + 1) (by omega) (by omega)
        first
          | (subst hb25
             have e0 : ovr S 2 k = nI (cntB (isMa (S 1)) k) := rfl
             have e1 : ovr S 2 (k + 1) = nI (cntB (isMa (S 1)) (k + 1)) := rfl
             first
               | (rw [e1, cntB_t (show isMa (S 1) k = true by simp [isMa]; exact Int32.not_le.mp hb35), ← nI_add (cntB (isMa (S 1)) k) 1, ← e0] at h; exact h)
               | (rw [e1, cntB_f (show isMa (S 1) k = false by simp [isMa]; exact hb35), ← nI_add (cntB (isMa (S 1)) k) 0, ← e0] at h; exact h))
          | (subst hb49
             exact h)
          | (obtain rfl : x = 4 := by omega
             exact h)
      · refine xw_iconst (v := nI 1) (pc := 38) dX6_overRules_38 rfl ?_
        refine xw_goto (pc := 39) 43 dX6_overRules_39 rfl ?_
        refine xw_iadd (pc := 43) dX6_overRules_43 ?_
        refine xw_goto (pc := 44) 73 dX6_overRules_44 rfl ?_
        refine xw_istore_n (l' := [(2, _), (3, _), (0, _), (1, _)]) (pc := 73) dX6_overRules_73 rfl (by decide) rfl ?_
        refine xw_iinc (v := nI (k + 1)) (l' := [(3, _), (2, _), (0, _), (1, _)]) (pc := 74) dX6_overRules_74 1 rfl (nI_add _ 1) (by decide) rfl ?_
        refine xw_goto (pc := 77) 13 dX6_overRules_77 rfl ?_
        have h := ih (k + 1) (by omega) (by omega)
        first
          | (subst hb25
             have e0 : ovr S 2 k = nI (cntB (isMa (S 1)) k) := rfl
             have e1 : ovr S 2 (k + 1) = nI (cntB (isMa (S 1)) (k + 1)) := rfl
             first
               | (rw [e1, cntB_t (show isMa (S 1) k = true by simp [isMa]; exact Int32.not_le.mp hb35), ← nI_add (cntB (isMa (S 1)) k) 1, ← e0] at h; exact h)
               | (rw [e1, cntB_f (show isMa (S 1) k = false by simp [isMa]; exact hb35), ← nI_add (cntB (isMa (S 1)) k) 0, ← e0] at h; exact h))
          | (subst hb49
             exact h)
          | (obtain rfl : x = 4 := by omega
             exact h)
theorem SP_X6_overRules {d : Nat} {g : xG} {m : Nat} {S : xMS} (hM : xMod g m) (rr x : Nat) (hr : rr ≤ 16) (h1 : S 1 1 = nI rr) (hWp : WFp (S 1) rr) (hx2 : 2 ≤ x) (hx4 : x ≤ 4) : XM M_X6_overRules (d + 3) [.ref m, .int (nI x)] (xWith g m S) (xOne (some (.int (ovr S x rr))) (xWith g m S)) := by
  refine xm_of (by decide +kernel) (Nat.le_of_ble_eq_true rfl) ?_
  show XW _ _ 0 [(0, _), (1, _)] [] _ _
  refine xw_iload_n (pc := 0) dX6_overRules_0 1 rfl ?_
  refine xw_iconst (v := nI 4) (pc := 1) dX6_overRules_1 rfl ?_
  refine xw_icmp_ne (pc := 2) 9 dX6_overRules_2 rfl (fun hb2 => ?_) (fun hb2 => ?_)
  · replace hb2 : ¬ (x = 4) := mt (nI_eq (a := x) (b := 4) (by omega) (by omega)).mpr hb2
    refine xw_iconst (v := nI 0) (pc := 9) dX6_overRules_9 rfl ?_
    refine xw_istore_n (l' := [(2, _), (0, _), (1, _)]) (pc := 10) dX6_overRules_10 rfl (by decide) rfl ?_
    refine xw_iconst (v := nI 0) (pc := 11) dX6_overRules_11 rfl ?_
    refine xw_istore_n (l' := [(3, _), (2, _), (0, _), (1, _)]) (pc := 12) dX6_overRules_12 rfl (by decide) rfl ?_
    have h := lp_X6_overRules (d := d) (S := S) hM rr x hr h1 hWp hx2 hx4 (rr + 1) 0 (by omega) (by omega)
    first
      | (subst hb2; exact h)
      | (rw [show ovr S x 0 = nI 0 from by unfold ovr; split; rfl; split; rfl; omega] at h; exact h)
  · replace hb2 : x = 4 := (nI_eq (a := x) (b := 4) (by omega) (by omega)).mp hb2
    refine xw_iconst (v := -1) (pc := 5) dX6_overRules_5 (by decide +kernel) ?_
    refine xw_goto (pc := 6) 10 dX6_overRules_6 rfl ?_
    refine xw_istore_n (l' := [(2, _), (0, _), (1, _)]) (pc := 10) dX6_overRules_10 rfl (by decide) rfl ?_
    refine xw_iconst (v := nI 0) (pc := 11) dX6_overRules_11 rfl ?_
    refine xw_istore_n (l' := [(3, _), (2, _), (0, _), (1, _)]) (pc := 12) dX6_overRules_12 rfl (by decide) rfl ?_
    have h := lp_X6_overRules (d := d) (S := S) hM rr x hr h1 hWp hx2 hx4 (rr + 1) 0 (by omega) (by omega)
    first
      | (subst hb2; exact h)
      | (rw [show ovr S x 0 = nI 0 from by unfold ovr; split; rfl; split; rfl; omega] at h; exact h)
