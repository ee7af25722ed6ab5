/-! MODEL 12: accounts; a new reference -/
set_option maxRecDepth 100000
def kpR (S : xMS) (k : Nat) : Bool := decide (0 ≤ S 11 k)
def acc (S : xMS) (rr w x : Nat) : Int32 := if x = 0 then S 1 0 else if x = 1 then S 1 1 else if x = 2 ∨ x = 3 ∨ x = 4 then ovr S x rr else if x = 5 then S 1 2 else if x = 6 then nI (w - cntB (fun z => !wRt (S 1) (S 0 14) rr z) w) else if x = 7 then nI (cntB (osP S) 6) else if x = 8 then nI (cntB (kpR S) 3) else if x = 9 then S 0 22 else S 0 5
theorem SP_X6_account_F {d : Nat} {g : xG} {m : Nat} {S : xMS} (hM : xMod g m) (v : Int32) (hv : ¬ inR v (nI 0) (nI 10) = true) : XM M_X6_account (d + 8) [.ref m, .int v] (xWith g m S) (xOne (some (.int (nI 0))) (xWith g m (mset S 0 6 (nI 1)))) := by
  refine xm_of (by decide +kernel) (Nat.le_of_ble_eq_true rfl) ?_
  show XW _ _ 0 [(0, _), (1, _)] [] _ _
  refine xw_aload_n (pc := 0) dX6_account_0 0 rfl ?_
  refine xw_iload_n (pc := 1) dX6_account_1 1 rfl ?_
  refine xw_iconst (v := nI 0) (pc := 2) dX6_account_2 rfl ?_
  refine xw_bipush (v := nI 10) (pc := 3) dX6_account_3 (by decide +kernel) ?_
  refine xw_callV (pc := 5) (xr_S (as := [_, _, _]) ok_X6_in rfl (by decide) q2364 q2365 dX6_account_5 rfl rfl (Nat.le_of_ble_eq_true rfl)) (SP_X6_inF (by assumption)) ?_
  refine xw_if_eq (pc := 8) 15 dX6_account_8 rfl (fun _ => ?_) (fun hb => absurd hb (by decide))
  refine xw_iconst (v := nI 1) (pc := 15) dX6_account_15 rfl ?_
  refine xm_putI (pc := 16) hM fd_X6_62 (xfin_of (by decide) (by decide +kernel)) dX6_account_16 ?_
  refine xw_aload_n (pc := 19) dX6_account_19 0 rfl ?_
  refine xm_getN (k := 1) (pc := 20) hM fd_X6_62 dX6_account_20 (by first | rfl | (simp [mset, mcpy]; done)) ?_
  refine xw_if_le (pc := 23) 28 dX6_account_23 rfl (fun hb => absurd hb (by decide)) (fun _ => ?_)
  refine xw_iconst (v := nI 0) (pc := 26) dX6_account_26 rfl ?_
  refine xw_iret (pc := 27) .int dX6_account_27 rfl ?_ 
  exact ⟨rfl, rfl⟩
theorem SP_X6_account {d : Nat} {g : xG} {m : Nat} {S : xMS} (hM : xMod g m) (n rr w : Nat) (hn : n ≤ 10) (hr : rr ≤ 16) (hw : w ≤ 12) (h1 : S 1 1 = nI rr) (h2 : S 1 2 = nI w) (hW : WFo (S 1) n) (hWr : WFr (S 1) n rr) (hWw : WFw (S 1) n w) (h4 : ¬ S 1 4 < 0) (hWp : WFp (S 1) rr) (x : Nat) (hx : x ≤ 10) : XM M_X6_account (d + 8) [.ref m, .int (nI x)] (xWith g m S) (xLk g m (mset S 0 6 (nI 0)) (acc S rr w x)) := by
  have e1 : (mset S 0 6 (nI 0)) 1 = S 1 := mset_q (by decide)
  have hin := inR_nat' (k := x) (b := 10) (by decide) hx
  have e014 : mset S 0 6 (nI 0) 0 14 = S 0 14 := rfl
  have hov : 2 ≤ x → x ≤ 4 → _ := fun a b => SP_X6_overRules (d := d + 4) (S := mset S 0 6 (nI 0)) hM rr x hr (by rw [e1]; exact h1) (by rw [e1]; exact hWp) a b
  have hx6 := SP_X6_wrongSet (d := d) (S := mset S 0 6 (nI 0)) hM n rr w hn hr hw (by rw [e1]; exact h1) (by rw [e1]; exact h2) (by rw [e1]; exact hW) (by rw [e1]; exact hWr) (by rw [e1]; exact hWw) (by rw [e1]; exact h4) _ (fun _ _ _ => rfl)
  rw [bset_bN w hw] at hx6
  simp only [e1, e014] at hx6
  have hlt := @bN_lt (fun z => !wRt (S 1) (S 0 14) rr z) w
  have hle := cntB_le (fun z => !wRt (S 1) (S 0 14) rr z) w
  have h5 : bN (fun z => !wRt (S 1) (S 0 14) rr z) w < 5000 := Nat.lt_of_lt_of_le hlt (Nat.le_trans (Nat.pow_le_pow_right (by decide) hw) (by decide))
  have hpc := pcN_bN (P := fun z => !wRt (S 1) (S 0 14) rr z) w hw
  have eov : ∀ x k, ovr (mset S 0 6 (nI 0)) x k = ovr S x k := by intro x k; unfold ovr; rw [e1]
  by_cases x0 : x = 0
  · subst x0
    refine xm_of (by decide +kernel) (Nat.le_of_ble_eq_true rfl) ?_
    show XW _ _ 0 [(0, _), (1, _)] [] _ _
    refine xw_aload_n (pc := 0) dX6_account_0 0 rfl ?_
    refine xw_iload_n (pc := 1) dX6_account_1 1 rfl ?_
    refine xw_iconst (v := nI 0) (pc := 2) dX6_account_2 rfl ?_
    refine xw_bipush (v := nI 10) (pc := 3) dX6_account_3 (by decide +kernel) ?_
    refine xw_callV (pc := 5) (xr_S (as := [_, _, _]) ok_X6_in rfl (by decide) q2364 q2365 dX6_account_5 rfl rfl (Nat.le_of_ble_eq_true rfl)) (SP_X6_inT (by assumption)) ?_
    refine xw_if_eq (pc := 8) 15 dX6_account_8 rfl (fun hb => absurd hb (by decide)) (fun _ => ?_)
    refine xw_iconst (v := nI 0) (pc := 11) dX6_account_11 rfl ?_
    refine xw_goto (pc := 12) 16 dX6_account_12 rfl ?_
    refine xm_putI (pc := 16) hM fd_X6_62 (xfin_of (by decide) (by decide +kernel)) dX6_account_16 ?_
    refine xw_aload_n (pc := 19) dX6_account_19 0 rfl ?_
    refine xm_getN (k := 0) (pc := 20) hM fd_X6_62 dX6_account_20 (by first | rfl | (simp [mset, mcpy]; done)) ?_
    refine xw_if_le (pc := 23) 28 dX6_account_23 rfl (fun _ => ?_) (fun hb => absurd hb (by decide))
    refine xw_iload_n (pc := 28) dX6_account_28 1 rfl ?_
    refine xw_tableIn (x := nI 0) (pc := 29) 84 dX6_account_29 (by decide) (by decide) rfl rfl ?_
    refine xw_aload_n (pc := 84) dX6_account_84 0 rfl ?_
    refine xm_get (p := 1) (pc := 85) hM fd_X6_9 dX6_account_85 rfl ?_
    refine xw_iconst (v := nI 0) (pc := 88) dX6_account_88 rfl ?_
    refine xm_iald (pc := 89) hM dX6_account_89 rfl (by omega) ?_
    refine xw_iret (pc := 90) .int dX6_account_90 rfl ?_ 
    exact ⟨by rw [e1]; rfl, _, fun _ _ _ => rfl, rfl⟩
  by_cases x1 : x = 1
  · subst x1
    refine xm_of (by decide +kernel) (Nat.le_of_ble_eq_true rfl) ?_
    show XW _ _ 0 [(0, _), (1, _)] [] _ _
    refine xw_aload_n (pc := 0) dX6_account_0 0 rfl ?_
    refine xw_iload_n (pc := 1) dX6_account_1 1 rfl ?_
    refine xw_iconst (v := nI 0) (pc := 2) dX6_account_2 rfl ?_
    refine xw_bipush (v := nI 10) (pc := 3) dX6_account_3 (by decide +kernel) ?_
    refine xw_callV (pc := 5) (xr_S (as := [_, _, _]) ok_X6_in rfl (by decide) q2364 q2365 dX6_account_5 rfl rfl (Nat.le_of_ble_eq_true rfl)) (SP_X6_inT (by assumption)) ?_
    refine xw_if_eq (pc := 8) 15 dX6_account_8 rfl (fun hb => absurd hb (by decide)) (fun _ => ?_)
    refine xw_iconst (v := nI 0) (pc := 11) dX6_account_11 rfl ?_
    refine xw_goto (pc := 12) 16 dX6_account_12 rfl ?_
    refine xm_putI (pc := 16) hM fd_X6_62 (xfin_of (by decide) (by decide +kernel)) dX6_account_16 ?_
    refine xw_aload_n (pc := 19) dX6_account_19 0 rfl ?_
    refine xm_getN (k := 0) (pc := 20) hM fd_X6_62 dX6_account_20 (by first | rfl | (simp [mset, mcpy]; done)) ?_
    refine xw_if_le (pc := 23) 28 dX6_account_23 rfl (fun _ => ?_) (fun hb => absurd hb (by decide))
    refine xw_iload_n (pc := 28) dX6_account_28 1 rfl ?_
    refine xw_tableIn (x := nI 1) (pc := 29) 91 dX6_account_29 (by decide) (by decide) rfl rfl ?_
    refine xw_aload_n (pc := 91) dX6_account_91 0 rfl ?_
    refine xm_get (p := 1) (pc := 92) hM fd_X6_9 dX6_account_92 rfl ?_
    refine xw_iconst (v := nI 1) (pc := 95) dX6_account_95 rfl ?_
    refine xm_iald (pc := 96) hM dX6_account_96 rfl (by omega) ?_
    refine xw_iret (pc := 97) .int dX6_account_97 rfl ?_ 
    exact ⟨by rw [e1]; rfl, _, fun _ _ _ => rfl, rfl⟩
  by_cases x2 : x = 2
  · subst x2
    refine xm_of (by decide +kernel) (Nat.le_of_ble_eq_true rfl) ?_
    show XW _ _ 0 [(0, _), (1, _)] [] _ _
    refine xw_aload_n (pc := 0) dX6_account_0 0 rfl ?_
    refine xw_iload_n (pc := 1) dX6_account_1 1 rfl ?_
    refine xw_iconst (v := nI 0) (pc := 2) dX6_account_2 rfl ?_
    refine xw_bipush (v := nI 10) (pc := 3) dX6_account_3 (by decide +kernel) ?_
    refine xw_callV (pc := 5) (xr_S (as := [_, _, _]) ok_X6_in rfl (by decide) q2364 q2365 dX6_account_5 rfl rfl (Nat.le_of_ble_eq_true rfl)) (SP_X6_inT (by assumption)) ?_
    refine xw_if_eq (pc := 8) 15 dX6_account_8 rfl (fun hb => absurd hb (by decide)) (fun _ => ?_)
    refine xw_iconst (v := nI 0) (pc := 11) dX6_account_11 rfl ?_
    refine xw_goto (pc := 12) 16 dX6_account_12 rfl ?_
    refine xm_putI (pc := 16) hM fd_X6_62 (xfin_of (by decide) (by decide +kernel)) dX6_account_16 ?_
    refine xw_aload_n (pc := 19) dX6_account_19 0 rfl ?_
    refine xm_getN (k := 0) (pc := 20) hM fd_X6_62 dX6_account_20 (by first | rfl | (simp [mset, mcpy]; done)) ?_
    refine xw_if_le (pc := 23) 28 dX6_account_23 rfl (fun _ => ?_) (fun hb => absurd hb (by decide))
    refine xw_iload_n (pc := 28) dX6_account_28 1 rfl ?_
    refine xw_tableIn (x := nI 2) (pc := 29) 98 dX6_account_29 (by decide) (by decide) rfl rfl ?_
    refine xw_aload_n (pc := 98) dX6_account_98 0 rfl ?_
    refine xw_iload_n (pc := 99) dX6_account_99 1 rfl ?_
    refine xw_callV (pc := 100) (xr_V (as := [_]) ok_X6_overRules rfl (by decide) q2745 q2747 qs90 (by rw [xtag_with, hM.1]; rfl) (by rw [xtag_with, hM.1]; rfl) dX6_account_100 rfl rfl (Nat.le_of_ble_eq_true rfl)) (hov (by decide) (by decide)) ?_
    refine xw_iret (pc := 103) .int dX6_account_103 rfl ?_ 
    exact ⟨by rw [eov]; rfl, _, fun _ _ _ => rfl, rfl⟩
  by_cases x3 : x = 3
  · subst x3
    refine xm_of (by decide +kernel) (Nat.le_of_ble_eq_true rfl) ?_
    show XW _ _ 0 [(0, _), (1, _)] [] _ _
    refine xw_aload_n (pc := 0) dX6_account_0 0 rfl ?_
    refine xw_iload_n (pc := 1) dX6_account_1 1 rfl ?_
    refine xw_iconst (v := nI 0) (pc := 2) dX6_account_2 rfl ?_
    refine xw_bipush (v := nI 10) (pc := 3) dX6_account_3 (by decide +kernel) ?_
    refine xw_callV (pc := 5) (xr_S (as := [_, _, _]) ok_X6_in rfl (by decide) q2364 q2365 dX6_account_5 rfl rfl (Nat.le_of_ble_eq_true rfl)) (SP_X6_inT (by assumption)) ?_
    refine xw_if_eq (pc := 8) 15 dX6_account_8 rfl (fun hb => absurd hb (by decide)) (fun _ => ?_)
    refine xw_iconst (v := nI 0) (pc := 11) dX6_account_11 rfl ?_
    refine xw_goto (pc := 12) 16 dX6_account_12 rfl ?_
    refine xm_putI (pc := 16) hM fd_X6_62 (xfin_of (by decide) (by decide +kernel)) dX6_account_16 ?_
    refine xw_aload_n (pc := 19) dX6_account_19 0 rfl ?_
    refine xm_getN (k := 0) (pc := 20) hM fd_X6_62 dX6_account_20 (by first | rfl | (simp [mset, mcpy]; done)) ?_
    refine xw_if_le (pc := 23) 28 dX6_account_23 rfl (fun _ => ?_) (fun hb => absurd hb (by decide))
    refine xw_iload_n (pc := 28) dX6_account_28 1 rfl ?_
    refine xw_tableIn (x := nI 3) (pc := 29) 98 dX6_account_29 (by decide) (by decide) rfl rfl ?_
    refine xw_aload_n (pc := 98) dX6_account_98 0 rfl ?_
    refine xw_iload_n (pc := 99) dX6_account_99 1 rfl ?_
    refine xw_callV (pc := 100) (xr_V (as := [_]) ok_X6_overRules rfl (by decide) q2745 q2747 qs90 (by rw [xtag_with, hM.1]; rfl) (by rw [xtag_with, hM.1]; rfl) dX6_account_100 rfl rfl (Nat.le_of_ble_eq_true rfl)) (hov (by decide) (by decide)) ?_
    refine xw_iret (pc := 103) .int dX6_account_103 rfl ?_ 
    exact ⟨by rw [eov]; rfl, _, fun _ _ _ => rfl, rfl⟩
  by_cases x4 : x = 4
  · subst x4
    refine xm_of (by decide +kernel) (Nat.le_of_ble_eq_true rfl) ?_
    show XW _ _ 0 [(0, _), (1, _)] [] _ _
    refine xw_aload_n (pc := 0) dX6_account_0 0 rfl ?_
    refine xw_iload_n (pc := 1) dX6_account_1 1 rfl ?_
    refine xw_iconst (v := nI 0) (pc := 2) dX6_account_2 rfl ?_
    refine xw_bipush (v := nI 10) (pc := 3) dX6_account_3 (by decide +kernel) ?_
    refine xw_callV (pc := 5) (xr_S (as := [_, _, _]) ok_X6_in rfl (by decide) q2364 q2365 dX6_account_5 rfl rfl (Nat.le_of_ble_eq_true rfl)) (SP_X6_inT (by assumption)) ?_
    refine xw_if_eq (pc := 8) 15 dX6_account_8 rfl (fun hb => absurd hb (by decide)) (fun _ => ?_)
    refine xw_iconst (v := nI 0) (pc := 11) dX6_account_11 rfl ?_
    refine xw_goto (pc := 12) 16 dX6_account_12 rfl ?_
    refine xm_putI (pc := 16) hM fd_X6_62 (xfin_of (by decide) (by decide +kernel)) dX6_account_16 ?_
    refine xw_aload_n (pc := 19) dX6_account_19 0 rfl ?_
    refine xm_getN (k := 0) (pc := 20) hM fd_X6_62 dX6_account_20 (by first | rfl | (simp [mset, mcpy]; done)) ?_
    refine xw_if_le (pc := 23) 28 dX6_account_23 rfl (fun _ => ?_) (fun hb => absurd hb (by decide))
    refine xw_iload_n (pc := 28) dX6_account_28 1 rfl ?_
    refine xw_tableIn (x := nI 4) (pc := 29) 98 dX6_account_29 (by decide) (by decide) rfl rfl ?_
    refine xw_aload_n (pc := 98) dX6_account_98 0 rfl ?_
    refine xw_iload_n (pc := 99) dX6_account_99 1 rfl ?_
    refine xw_callV (pc := 100) (xr_V (as := [_]) ok_X6_overRules rfl (by decide) q2745 q2747 qs90 (by rw [xtag_with, hM.1]; rfl) (by rw [xtag_with, hM.1]; rfl) dX6_account_100 rfl rfl (Nat.le_of_ble_eq_true rfl)) (hov (by decide) (by decide)) ?_
    refine xw_iret (pc := 103) .int dX6_account_103 rfl ?_ 
    exact ⟨by rw [eov]; rfl, _, fun _ _ _ => rfl, rfl⟩
  by_cases x5 : x = 5
  · subst x5
    refine xm_of (by decide +kernel) (Nat.le_of_ble_eq_true rfl) ?_
    show XW _ _ 0 [(0, _), (1, _)] [] _ _
    refine xw_aload_n (pc := 0) dX6_account_0 0 rfl ?_
    refine xw_iload_n (pc := 1) dX6_account_1 1 rfl ?_
    refine xw_iconst (v := nI 0) (pc := 2) dX6_account_2 rfl ?_
    refine xw_bipush (v := nI 10) (pc := 3) dX6_account_3 (by decide +kernel) ?_
    refine xw_callV (pc := 5) (xr_S (as := [_, _, _]) ok_X6_in rfl (by decide) q2364 q2365 dX6_account_5 rfl rfl (Nat.le_of_ble_eq_true rfl)) (SP_X6_inT (by assumption)) ?_
    refine xw_if_eq (pc := 8) 15 dX6_account_8 rfl (fun hb => absurd hb (by decide)) (fun _ => ?_)
    refine xw_iconst (v := nI 0) (pc := 11) dX6_account_11 rfl ?_
    refine xw_goto (pc := 12) 16 dX6_account_12 rfl ?_
    refine xm_putI (pc := 16) hM fd_X6_62 (xfin_of (by decide) (by decide +kernel)) dX6_account_16 ?_
    refine xw_aload_n (pc := 19) dX6_account_19 0 rfl ?_
    refine xm_getN (k := 0) (pc := 20) hM fd_X6_62 dX6_account_20 (by first | rfl | (simp [mset, mcpy]; done)) ?_
    refine xw_if_le (pc := 23) 28 dX6_account_23 rfl (fun _ => ?_) (fun hb => absurd hb (by decide))
    refine xw_iload_n (pc := 28) dX6_account_28 1 rfl ?_
    refine xw_tableIn (x := nI 5) (pc := 29) 104 dX6_account_29 (by decide) (by decide) rfl rfl ?_
    refine xw_aload_n (pc := 104) dX6_account_104 0 rfl ?_
    refine xm_get (p := 1) (pc := 105) hM fd_X6_9 dX6_account_105 rfl ?_
    refine xw_iconst (v := nI 2) (pc := 108) dX6_account_108 rfl ?_
    refine xm_iald (pc := 109) hM dX6_account_109 rfl (by omega) ?_
    refine xw_iret (pc := 110) .int dX6_account_110 rfl ?_ 
    exact ⟨by rw [e1]; rfl, _, fun _ _ _ => rfl, rfl⟩
  by_cases x6 : x = 6
  · subst x6
    refine xm_of (by decide +kernel) (Nat.le_of_ble_eq_true rfl) ?_
    show XW _ _ 0 [(0, _), (1, _)] [] _ _
    refine xw_aload_n (pc := 0) dX6_account_0 0 rfl ?_
    refine xw_iload_n (pc := 1) dX6_account_1 1 rfl ?_
    refine xw_iconst (v := nI 0) (pc := 2) dX6_account_2 rfl ?_
    refine xw_bipush (v := nI 10) (pc := 3) dX6_account_3 (by decide +kernel) ?_
    refine xw_callV (pc := 5) (xr_S (as := [_, _, _]) ok_X6_in rfl (by decide) q2364 q2365 dX6_account_5 rfl rfl (Nat.le_of_ble_eq_true rfl)) (SP_X6_inT (by assumption)) ?_
    refine xw_if_eq (pc := 8) 15 dX6_account_8 rfl (fun hb => absurd hb (by decide)) (fun _ => ?_)
    refine xw_iconst (v := nI 0) (pc := 11) dX6_account_11 rfl ?_
    refine xw_goto (pc := 12) 16 dX6_account_12 rfl ?_
    refine xm_putI (pc := 16) hM fd_X6_62 (xfin_of (by decide) (by decide +kernel)) dX6_account_16 ?_
    refine xw_aload_n (pc := 19) dX6_account_19 0 rfl ?_
    refine xm_getN (k := 0) (pc := 20) hM fd_X6_62 dX6_account_20 (by first | rfl | (simp [mset, mcpy]; done)) ?_
    refine xw_if_le (pc := 23) 28 dX6_account_23 rfl (fun _ => ?_) (fun hb => absurd hb (by decide))
    refine xw_iload_n (pc := 28) dX6_account_28 1 rfl ?_
    refine xw_tableIn (x := nI 6) (pc := 29) 111 dX6_account_29 (by decide) (by decide) rfl rfl ?_
    refine xw_aload_n (pc := 111) dX6_account_111 0 rfl ?_
    refine xm_get (p := 1) (pc := 112) hM fd_X6_9 dX6_account_112 rfl ?_
    refine xw_iconst (v := nI 2) (pc := 115) dX6_account_115 rfl ?_
    refine xm_ialdN (v := w) (pc := 116) hM dX6_account_116 rfl (by omega) (by rw [e1]; exact h2) ?_
    refine xw_aload_n (pc := 117) dX6_account_117 0 rfl ?_
    refine xw_callL (pc := 118) (xr_V (as := []) ok_X6_wrongSet rfl (by decide) q2614 q2616 qs80 (by rw [xtag_with, hM.1]; rfl) (by rw [xtag_with, hM.1]; rfl) dX6_account_118 rfl rfl (Nat.le_of_ble_eq_true rfl)) (hx6) ?_
    intro T2 hT2
    have e2 : T2 1 = S 1 := hT2 1 (by decide) (by decide)
    refine xw_callV (pc := 121) (xr_S (as := [_]) ok_X6_ones rfl (by decide) q2626 q2627 dX6_account_121 rfl rfl (Nat.le_of_ble_eq_true rfl)) (SP_X6_ones _ h5) ?_
    refine xn_isub (pc := 124) dX6_account_124 (by omega) ?_
    refine xw_iret (pc := 125) .int dX6_account_125 rfl ?_ 
    rw [hpc]
    exact ⟨rfl, T2, hT2, rfl⟩
  by_cases x7 : x = 7
  · subst x7
    refine xm_of (by decide +kernel) (Nat.le_of_ble_eq_true rfl) ?_
    show XW _ _ 0 [(0, _), (1, _)] [] _ _
    refine xw_aload_n (pc := 0) dX6_account_0 0 rfl ?_
    refine xw_iload_n (pc := 1) dX6_account_1 1 rfl ?_
    refine xw_iconst (v := nI 0) (pc := 2) dX6_account_2 rfl ?_
    refine xw_bipush (v := nI 10) (pc := 3) dX6_account_3 (by decide +kernel) ?_
    refine xw_callV (pc := 5) (xr_S (as := [_, _, _]) ok_X6_in rfl (by decide) q2364 q2365 dX6_account_5 rfl rfl (Nat.le_of_ble_eq_true rfl)) (SP_X6_inT (by assumption)) ?_
    refine xw_if_eq (pc := 8) 15 dX6_account_8 rfl (fun hb => absurd hb (by decide)) (fun _ => ?_)
    refine xw_iconst (v := nI 0) (pc := 11) dX6_account_11 rfl ?_
    refine xw_goto (pc := 12) 16 dX6_account_12 rfl ?_
    refine xm_putI (pc := 16) hM fd_X6_62 (xfin_of (by decide) (by decide +kernel)) dX6_account_16 ?_
    refine xw_aload_n (pc := 19) dX6_account_19 0 rfl ?_
    refine xm_getN (k := 0) (pc := 20) hM fd_X6_62 dX6_account_20 (by first | rfl | (simp [mset, mcpy]; done)) ?_
    refine xw_if_le (pc := 23) 28 dX6_account_23 rfl (fun _ => ?_) (fun hb => absurd hb (by decide))
    refine xw_iload_n (pc := 28) dX6_account_28 1 rfl ?_
    refine xw_tableIn (x := nI 7) (pc := 29) 126 dX6_account_29 (by decide) (by decide) rfl rfl ?_
    refine xw_aload_n (pc := 126) dX6_account_126 0 rfl ?_
    refine xw_callV (pc := 127) (xr_V (as := []) ok_X6_onSheet rfl (by decide) q2633 q2635 qs81 (by rw [xtag_with, hM.1]; rfl) (by rw [xtag_with, hM.1]; rfl) dX6_account_127 rfl rfl (Nat.le_of_ble_eq_true rfl)) (SP_X6_onSheet hM) ?_
    refine xw_iret (pc := 130) .int dX6_account_130 rfl ?_ 
    exact ⟨rfl, _, fun _ _ _ => rfl, rfl⟩
  by_cases x8 : x = 8
  · subst x8
    refine xm_of (by decide +kernel) (Nat.le_of_ble_eq_true rfl) ?_
    show XW _ _ 0 [(0, _), (1, _)] [] _ _
    refine xw_aload_n (pc := 0) dX6_account_0 0 rfl ?_
    refine xw_iload_n (pc := 1) dX6_account_1 1 rfl ?_
    refine xw_iconst (v := nI 0) (pc := 2) dX6_account_2 rfl ?_
    refine xw_bipush (v := nI 10) (pc := 3) dX6_account_3 (by decide +kernel) ?_
    refine xw_callV (pc := 5) (xr_S (as := [_, _, _]) ok_X6_in rfl (by decide) q2364 q2365 dX6_account_5 rfl rfl (Nat.le_of_ble_eq_true rfl)) (SP_X6_inT (by assumption)) ?_
    refine xw_if_eq (pc := 8) 15 dX6_account_8 rfl (fun hb => absurd hb (by decide)) (fun _ => ?_)
    refine xw_iconst (v := nI 0) (pc := 11) dX6_account_11 rfl ?_
    refine xw_goto (pc := 12) 16 dX6_account_12 rfl ?_
    refine xm_putI (pc := 16) hM fd_X6_62 (xfin_of (by decide) (by decide +kernel)) dX6_account_16 ?_
    refine xw_aload_n (pc := 19) dX6_account_19 0 rfl ?_
    refine xm_getN (k := 0) (pc := 20) hM fd_X6_62 dX6_account_20 (by first | rfl | (simp [mset, mcpy]; done)) ?_
    refine xw_if_le (pc := 23) 28 dX6_account_23 rfl (fun _ => ?_) (fun hb => absurd hb (by decide))
    refine xw_iload_n (pc := 28) dX6_account_28 1 rfl ?_
    refine xw_tableIn (x := nI 8) (pc := 29) 131 dX6_account_29 (by decide) (by decide) rfl rfl ?_
    refine xw_aload_n (pc := 131) dX6_account_131 0 rfl ?_
    refine xm_get (p := 11) (pc := 132) hM fd_X6_49 dX6_account_132 rfl ?_
    refine xw_iconst (v := nI 0) (pc := 135) dX6_account_135 rfl ?_
    refine xm_iald (pc := 136) hM dX6_account_136 rfl (by omega) ?_
    refine xw_if_ge (pc := 137) 144 dX6_account_137 rfl (fun hb137 => ?_) (fun hb137 => ?_)
    · refine xw_iconst (v := nI 1) (pc := 144) dX6_account_144 rfl ?_
      refine xw_aload_n (pc := 145) dX6_account_145 0 rfl ?_
      refine xm_get (p := 11) (pc := 146) hM fd_X6_49 dX6_account_146 rfl ?_
      refine xw_iconst (v := nI 1) (pc := 149) dX6_account_149 rfl ?_
      refine xm_iald (pc := 150) hM dX6_account_150 rfl (by omega) ?_
      refine xw_if_ge (pc := 151) 158 dX6_account_151 rfl (fun hb151 => ?_) (fun hb151 => ?_)
      · refine xw_iconst (v := nI 1) (pc := 158) dX6_account_158 rfl ?_
        refine xn_iadd (pc := 159) dX6_account_159 ?_
        refine xw_aload_n (pc := 160) dX6_account_160 0 rfl ?_
        refine xm_get (p := 11) (pc := 161) hM fd_X6_49 dX6_account_161 rfl ?_
        refine xw_iconst (v := nI 2) (pc := 164) dX6_account_164 rfl ?_
        refine xm_iald (pc := 165) hM dX6_account_165 rfl (by omega) ?_
        refine xw_if_ge (pc := 166) 173 dX6_account_166 rfl (fun hb166 => ?_) (fun hb166 => ?_)
        · refine xw_iconst (v := nI 1) (pc := 173) dX6_account_173 rfl ?_
          refine xn_iadd (pc := 174) dX6_account_174 ?_
          refine xw_iret (pc := 175) .int dX6_account_175 rfl ?_ 
          exact ⟨by
            have e11 : mset S 0 6 (nI 0) 11 = S 11 := mset_q (by decide)
            have q0 := hb137
            have q1 := hb151
            have q2 := hb166
            rw [e11] at q0 q1 q2
            refine congrArg (fun z => Sum.inl (some (Value.int z))) ?_
            show _ = nI (cntB (kpR S) 3)
            simp only [cntB, kpR, decide_eq_true_eq]
            (first | rw [if_pos q0] | rw [if_neg q0])
            (first | rw [if_pos q1] | rw [if_neg q1])
            (first | rw [if_pos q2] | rw [if_neg q2]), _, fun _ _ _ => rfl, rfl⟩
        · refine xw_iconst (v := nI 0) (pc := 169) dX6_account_169 rfl ?_
          refine xw_goto (pc := 170) 174 dX6_account_170 rfl ?_
          refine xn_iadd (pc := 174) dX6_account_174 ?_
          refine xw_iret (pc := 175) .int dX6_account_175 rfl ?_ 
          exact ⟨by
            have e11 : mset S 0 6 (nI 0) 11 = S 11 := mset_q (by decide)
            have q0 := hb137
            have q1 := hb151
            have q2 := hb166
            rw [e11] at q0 q1 q2
            refine congrArg (fun z => Sum.inl (some (Value.int z))) ?_
            show _ = nI (cntB (kpR S) 3)
            simp only [cntB, kpR, decide_eq_true_eq]
            (first | rw [if_pos q0] | rw [if_neg q0])
            (first | rw [if_pos q1] | rw [if_neg q1])
            (first | rw [if_pos q2] | rw [if_neg q2]), _, fun _ _ _ => rfl, rfl⟩
      · refine xw_iconst (v := nI 0) (pc := 154) dX6_account_154 rfl ?_
        refine xw_goto (pc := 155) 159 dX6_account_155 rfl ?_
        refine xn_iadd (pc := 159) dX6_account_159 ?_
        refine xw_aload_n (pc := 160) dX6_account_160 0 rfl ?_
        refine xm_get (p := 11) (pc := 161) hM fd_X6_49 dX6_account_161 rfl ?_
        refine xw_iconst (v := nI 2) (pc := 164) dX6_account_164 rfl ?_
        refine xm_iald (pc := 165) hM dX6_account_165 rfl (by omega) ?_
        refine xw_if_ge (pc := 166) 173 dX6_account_166 rfl (fun hb166 => ?_) (fun hb166 => ?_)
        · refine xw_iconst (v := nI 1) (pc := 173) dX6_account_173 rfl ?_
          refine xn_iadd (pc := 174) dX6_account_174 ?_
          refine xw_iret (pc := 175) .int dX6_account_175 rfl ?_ 
          exact ⟨by
            have e11 : mset S 0 6 (nI 0) 11 = S 11 := mset_q (by decide)
            have q0 := hb137
            have q1 := hb151
            have q2 := hb166
            rw [e11] at q0 q1 q2
            refine congrArg (fun z => Sum.inl (some (Value.int z))) ?_
            show _ = nI (cntB (kpR S) 3)
            simp only [cntB, kpR, decide_eq_true_eq]
            (first | rw [if_pos q0] | rw [if_neg q0])
            (first | rw [if_pos q1] | rw [if_neg q1])
            (first | rw [if_pos q2] | rw [if_neg q2]), _, fun _ _ _ => rfl, rfl⟩
        · refine xw_iconst (v := nI 0) (pc := 169) dX6_account_169 rfl ?_
          refine xw_goto (pc := 170) 174 dX6_account_170 rfl ?_
          refine xn_iadd (pc := 174) dX6_account_174 ?_
          refine xw_iret (pc := 175) .int dX6_account_175 rfl ?_ 
          exact ⟨by
            have e11 : mset S 0 6 (nI 0) 11 = S 11 := mset_q (by decide)
            have q0 := hb137
            have q1 := hb151
            have q2 := hb166
            rw [e11] at q0 q1 q2
            refine congrArg (fun z => Sum.inl (some (Value.int z))) ?_
            show _ = nI (cntB (kpR S) 3)
            simp only [cntB, kpR, decide_eq_true_eq]
            (first | rw [if_pos q0] | rw [if_neg q0])
            (first | rw [if_pos q1] | rw [if_neg q1])
            (first | rw [if_pos q2] | rw [if_neg q2]), _, fun _ _ _ => rfl, rfl⟩
    · refine xw_iconst (v := nI 0) (pc := 140) dX6_account_140 rfl ?_
      refine xw_goto (pc := 141) 145 dX6_account_141 rfl ?_
      refine xw_aload_n (pc := 145) dX6_account_145 0 rfl ?_
      refine xm_get (p := 11) (pc := 146) hM fd_X6_49 dX6_account_146 rfl ?_
      refine xw_iconst (v := nI 1) (pc := 149) dX6_account_149 rfl ?_
      refine xm_iald (pc := 150) hM dX6_account_150 rfl (by omega) ?_
      refine xw_if_ge (pc := 151) 158 dX6_account_151 rfl (fun hb151 => ?_) (fun hb151 => ?_)
      · refine xw_iconst (v := nI 1) (pc := 158) dX6_account_158 rfl ?_
        refine xn_iadd (pc := 159) dX6_account_159 ?_
        refine xw_aload_n (pc := 160) dX6_account_160 0 rfl ?_
        refine xm_get (p := 11) (pc := 161) hM fd_X6_49 dX6_account_161 rfl ?_
        refine xw_iconst (v := nI 2) (pc := 164) dX6_account_164 rfl ?_
        refine xm_iald (pc := 165) hM dX6_account_165 rfl (by omega) ?_
        refine xw_if_ge (pc := 166) 173 dX6_account_166 rfl (fun hb166 => ?_) (fun hb166 => ?_)
        · refine xw_iconst (v := nI 1) (pc := 173) dX6_account_173 rfl ?_
          refine xn_iadd (pc := 174) dX6_account_174 ?_
          refine xw_iret (pc := 175) .int dX6_account_175 rfl ?_ 
          exact ⟨by
            have e11 : mset S 0 6 (nI 0) 11 = S 11 := mset_q (by decide)
            have q0 := hb137
            have q1 := hb151
            have q2 := hb166
            rw [e11] at q0 q1 q2
            refine congrArg (fun z => Sum.inl (some (Value.int z))) ?_
            show _ = nI (cntB (kpR S) 3)
            simp only [cntB, kpR, decide_eq_true_eq]
            (first | rw [if_pos q0] | rw [if_neg q0])
            (first | rw [if_pos q1] | rw [if_neg q1])
            (first | rw [if_pos q2] | rw [if_neg q2]), _, fun _ _ _ => rfl, rfl⟩
        · refine xw_iconst (v := nI 0) (pc := 169) dX6_account_169 rfl ?_
          refine xw_goto (pc := 170) 174 dX6_account_170 rfl ?_
          refine xn_iadd (pc := 174) dX6_account_174 ?_
          refine xw_iret (pc := 175) .int dX6_account_175 rfl ?_ 
          exact ⟨by
            have e11 : mset S 0 6 (nI 0) 11 = S 11 := mset_q (by decide)
            have q0 := hb137
            have q1 := hb151
            have q2 := hb166
            rw [e11] at q0 q1 q2
            refine congrArg (fun z => Sum.inl (some (Value.int z))) ?_
            show _ = nI (cntB (kpR S) 3)
            simp only [cntB, kpR, decide_eq_true_eq]
            (first | rw [if_pos q0] | rw [if_neg q0])
            (first | rw [if_pos q1] | rw [if_neg q1])
            (first | rw [if_pos q2] | rw [if_neg q2]), _, fun _ _ _ => rfl, rfl⟩
      · refine xw_iconst (v := nI 0) (pc := 154) dX6_account_154 rfl ?_
        refine xw_goto (pc := 155) 159 dX6_account_155 rfl ?_
        refine xn_iadd (pc := 159) dX6_account_159 ?_
        refine xw_aload_n (pc := 160) dX6_account_160 0 rfl ?_
        refine xm_get (p := 11) (pc := 161) hM fd_X6_49 dX6_account_161 rfl ?_
        refine xw_iconst (v := nI 2) (pc := 164) dX6_account_164 rfl ?_
        refine xm_iald (pc := 165) hM dX6_account_165 rfl (by omega) ?_
        refine xw_if_ge (pc := 166) 173 dX6_account_166 rfl (fun hb166 => ?_) (fun hb166 => ?_)
        · refine xw_iconst (v := nI 1) (pc := 173) dX6_account_173 rfl ?_
          refine xn_iadd (pc := 174) dX6_account_174 ?_
          refine xw_iret (pc := 175) .int dX6_account_175 rfl ?_ 
          exact ⟨by
            have e11 : mset S 0 6 (nI 0) 11 = S 11 := mset_q (by decide)
            have q0 := hb137
            have q1 := hb151
            have q2 := hb166
            rw [e11] at q0 q1 q2
            refine congrArg (fun z => Sum.inl (some (Value.int z))) ?_
            show _ = nI (cntB (kpR S) 3)
            simp only [cntB, kpR, decide_eq_true_eq]
            (first | rw [if_pos q0] | rw [if_neg q0])
            (first | rw [if_pos q1] | rw [if_neg q1])
            (first | rw [if_pos q2] | rw [if_neg q2]), _, fun _ _ _ => rfl, rfl⟩
        · refine xw_iconst (v := nI 0) (pc := 169) dX6_account_169 rfl ?_
          refine xw_goto (pc := 170) 174 dX6_account_170 rfl ?_
          refine xn_iadd (pc := 174) dX6_account_174 ?_
          refine xw_iret (pc := 175) .int dX6_account_175 rfl ?_ 
          exact ⟨by
            have e11 : mset S 0 6 (nI 0) 11 = S 11 := mset_q (by decide)
            have q0 := hb137
            have q1 := hb151
            have q2 := hb166
            rw [e11] at q0 q1 q2
            refine congrArg (fun z => Sum.inl (some (Value.int z))) ?_
            show _ = nI (cntB (kpR S) 3)
            simp only [cntB, kpR, decide_eq_true_eq]
            (first | rw [if_pos q0] | rw [if_neg q0])
            (first | rw [if_pos q1] | rw [if_neg q1])
            (first | rw [if_pos q2] | rw [if_neg q2]), _, fun _ _ _ => rfl, rfl⟩
  by_cases x9 : x = 9
  · subst x9
    refine xm_of (by decide +kernel) (Nat.le_of_ble_eq_true rfl) ?_
    show XW _ _ 0 [(0, _), (1, _)] [] _ _
    refine xw_aload_n (pc := 0) dX6_account_0 0 rfl ?_
    refine xw_iload_n (pc := 1) dX6_account_1 1 rfl ?_
    refine xw_iconst (v := nI 0) (pc := 2) dX6_account_2 rfl ?_
    refine xw_bipush (v := nI 10) (pc := 3) dX6_account_3 (by decide +kernel) ?_
    refine xw_callV (pc := 5) (xr_S (as := [_, _, _]) ok_X6_in rfl (by decide) q2364 q2365 dX6_account_5 rfl rfl (Nat.le_of_ble_eq_true rfl)) (SP_X6_inT (by assumption)) ?_
    refine xw_if_eq (pc := 8) 15 dX6_account_8 rfl (fun hb => absurd hb (by decide)) (fun _ => ?_)
    refine xw_iconst (v := nI 0) (pc := 11) dX6_account_11 rfl ?_
    refine xw_goto (pc := 12) 16 dX6_account_12 rfl ?_
    refine xm_putI (pc := 16) hM fd_X6_62 (xfin_of (by decide) (by decide +kernel)) dX6_account_16 ?_
    refine xw_aload_n (pc := 19) dX6_account_19 0 rfl ?_
    refine xm_getN (k := 0) (pc := 20) hM fd_X6_62 dX6_account_20 (by first | rfl | (simp [mset, mcpy]; done)) ?_
    refine xw_if_le (pc := 23) 28 dX6_account_23 rfl (fun _ => ?_) (fun hb => absurd hb (by decide))
    refine xw_iload_n (pc := 28) dX6_account_28 1 rfl ?_
    refine xw_tableIn (x := nI 9) (pc := 29) 176 dX6_account_29 (by decide) (by decide) rfl rfl ?_
    refine xw_aload_n (pc := 176) dX6_account_176 0 rfl ?_
    refine xm_getI (pc := 177) hM fd_X6_252 dX6_account_177 ?_
    refine xw_iret (pc := 180) .int dX6_account_180 rfl ?_ 
    exact ⟨rfl, _, fun _ _ _ => rfl, rfl⟩
  refine xm_of (by decide +kernel) (Nat.le_of_ble_eq_true rfl) ?_
  show XW _ _ 0 [(0, _), (1, _)] [] _ _
  refine xw_aload_n (pc := 0) dX6_account_0 0 rfl ?_
  refine xw_iload_n (pc := 1) dX6_account_1 1 rfl ?_
  refine xw_iconst (v := nI 0) (pc := 2) dX6_account_2 rfl ?_
  refine xw_bipush (v := nI 10) (pc := 3) dX6_account_3 (by decide +kernel) ?_
  refine xw_callV (pc := 5) (xr_S (as := [_, _, _]) ok_X6_in rfl (by decide) q2364 q2365 dX6_account_5 rfl rfl (Nat.le_of_ble_eq_true rfl)) (SP_X6_inT (by assumption)) ?_
  refine xw_if_eq (pc := 8) 15 dX6_account_8 rfl (fun hb => absurd hb (by decide)) (fun _ => ?_)
  refine xw_iconst (v := nI 0) (pc := 11) dX6_account_11 rfl ?_
  refine xw_goto (pc := 12) 16 dX6_account_12 rfl ?_
  refine xm_putI (pc := 16) hM fd_X6_62 (xfin_of (by decide) (by decide +kernel)) dX6_account_16 ?_
  refine xw_aload_n (pc := 19) dX6_account_19 0 rfl ?_
  refine xm_getN (k := 0) (pc := 20) hM fd_X6_62 dX6_account_20 (by first | rfl | (simp [mset, mcpy]; done)) ?_
  refine xw_if_le (pc := 23) 28 dX6_account_23 rfl (fun _ => ?_) (fun hb => absurd hb (by decide))
  refine xw_iload_n (pc := 28) dX6_account_28 1 rfl ?_
  refine xw_tableOut (pc := 29) 181 dX6_account_29 (by rw [nI_toInt (by omega)]; omega) rfl ?_
  refine xw_aload_n (pc := 181) dX6_account_181 0 rfl ?_
  refine xm_getI (pc := 182) hM fd_X6_71 dX6_account_182 ?_
  refine xw_iret (pc := 185) .int dX6_account_185 rfl ?_ 
  exact ⟨by simp [acc, mset, *], _, fun _ _ _ => rfl, rfl⟩
theorem xw_at {M : xM} {d pc a : Nat} {l : List (Nat × Value)} {rest : List Value} {g0 gg : xG} {Q : Option Value ⊕ Nat → xG → Prop} (ha : xsz g0 = a) (k : XW M d pc l (.ref a :: rest) gg Q) : XW M d pc l (.ref (xsz g0) :: rest) gg Q := by
  rw [ha]
  exact k
