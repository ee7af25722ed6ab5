/-! MODEL 8: cases, told -/
set_option maxRecDepth 100000
theorem SP_X6_wrongCaseW {d : Nat} {g : xG} {m : Nat} {S : xMS} (hM : xMod g m) {a b c : Int32} (w : Nat) (hw : wrongC S a b c = w) : XM M_X6_wrongCase (d + 3) [.ref m, .int a, .int b, .int c] (xWith g m S) (xOne (some (.int (nI w))) (xWith g m S)) := by
  rw [← hw]
  exact SP_X6_wrongCase hM
theorem wrongC_0 {S : xMS} {n k : Nat} {b c : Int32} (hn : n ≤ 10) (h0 : S 1 0 = nI n) (hk : k < n) (hcs : isCs b c = true) : wrongC S (nI k) b c = 0 := by
  unfold wrongC
  rw [h0, inR_k (by omega) hk, hcs]
  rfl
theorem isCs_day {b c : Int32} (h : isCs b c = true) : ∃ dd, dd ≤ 999 ∧ b = nI dd := by
  unfold isCs at h
  rw [Bool.and_eq_true] at h
  exact inR_nat (by decide) h.1
theorem SP_X6_covers_F {d : Nat} {g : xG} {m : Nat} {S : xMS} (hM : xMod g m) (rr : Nat) (hr : rr ≤ 16) (h1 : S 1 1 = nI rr) (v : Int32) (hv : ¬ inR v (nI 0) (nI rr - nI 1) = true) (a b c : Int32) : XM M_X6_covers (d + 4) [.ref m, .int v, .int a, .int b, .int c] (xWith g m S) (xOne (some (.int (nI 0))) (xWith g m (mset S 0 6 (nI 1)))) := by
  refine xm_of (by decide +kernel) (Nat.le_of_ble_eq_true rfl) ?_
  show XW _ _ 0 [(0, _), (1, _), (2, _), (3, _), (4, _)] [] _ _
  refine xw_aload_n (pc := 0) dX6_covers_0 0 rfl ?_
  refine xw_aload_n (pc := 1) dX6_covers_1 0 rfl ?_
  refine xw_iload_n (pc := 2) dX6_covers_2 1 rfl ?_
  refine xw_callV (pc := 3) (xr_V (as := [_]) ok_X6_isRule rfl (by decide) q2445 q2447 qs60 (by rw [xtag_with, hM.1]; rfl) (by rw [xtag_with, hM.1]; rfl) dX6_covers_3 rfl rfl (Nat.le_of_ble_eq_true rfl)) (SP_X6_isRuleF hM rr h1 (by assumption)) ?_
  refine xw_if_ne (pc := 6) 13 dX6_covers_6 rfl (fun hb => absurd hb (by decide)) (fun _ => ?_)
  refine xw_iconst (v := nI 1) (pc := 9) dX6_covers_9 rfl ?_
  refine xw_goto (pc := 10) 21 dX6_covers_10 rfl ?_
  refine xm_putI (pc := 21) hM fd_X6_62 (xfin_of (by decide) (by decide +kernel)) dX6_covers_21 ?_
  refine xw_aload_n (pc := 24) dX6_covers_24 0 rfl ?_
  refine xm_getN (k := 1) (pc := 25) hM fd_X6_62 dX6_covers_25 (by first | rfl | (simp [mset, mcpy]; done)) ?_
  refine xw_if_ne (pc := 28) 47 dX6_covers_28 rfl (fun _ => ?_) (fun hb => absurd hb (by decide))
  refine xw_iconst (v := nI 0) (pc := 47) dX6_covers_47 rfl ?_
  refine xw_iret (pc := 48) .boolean dX6_covers_48 rfl ?_ 
  exact ⟨rfl, rfl⟩
theorem SP_X6_covers_W {d : Nat} {g : xG} {m : Nat} {S : xMS} (hM : xMod g m) (rr : Nat) (hr : rr ≤ 16) (h1 : S 1 1 = nI rr) (r : Nat) (hrr : r < rr) (a b c : Int32) (w : Nat) (hw0 : 0 < w) (hw2 : w ≤ 2) (hw : wrongC S a b c = w) : XM M_X6_covers (d + 4) [.ref m, .int (nI r), .int a, .int b, .int c] (xWith g m S) (xOne (some (.int (nI 0))) (xWith g m (mset S 0 6 (nI w)))) := by
  refine xm_of (by decide +kernel) (Nat.le_of_ble_eq_true rfl) ?_
  show XW _ _ 0 [(0, _), (1, _), (2, _), (3, _), (4, _)] [] _ _
  refine xw_aload_n (pc := 0) dX6_covers_0 0 rfl ?_
  refine xw_aload_n (pc := 1) dX6_covers_1 0 rfl ?_
  refine xw_iload_n (pc := 2) dX6_covers_2 1 rfl ?_
  refine xw_callV (pc := 3) (xr_V (as := [_]) ok_X6_isRule rfl (by decide) q2445 q2447 qs60 (by rw [xtag_with, hM.1]; rfl) (by rw [xtag_with, hM.1]; rfl) dX6_covers_3 rfl rfl (Nat.le_of_ble_eq_true rfl)) (SP_X6_isRuleK hM r rr hr (by assumption) h1) ?_
  refine xw_if_ne (pc := 6) 13 dX6_covers_6 rfl (fun _ => ?_) (fun hb => absurd hb (by decide))
  refine xw_aload_n (pc := 13) dX6_covers_13 0 rfl ?_
  refine xw_iload_n (pc := 14) dX6_covers_14 2 rfl ?_
  refine xw_iload_n (pc := 15) dX6_covers_15 3 rfl ?_
  refine xw_iload (pc := 16) dX6_covers_16 4 rfl ?_
  refine xw_callV (pc := 18) (xr_V (as := [_, _, _]) ok_X6_wrongCase rfl (by decide) q2500 q2502 qs67 (by rw [xtag_with, hM.1]; rfl) (by rw [xtag_with, hM.1]; rfl) dX6_covers_18 rfl rfl (Nat.le_of_ble_eq_true rfl)) (SP_X6_wrongCaseW hM w hw) ?_
  refine xm_putI (pc := 21) hM fd_X6_62 (xfin_of (by decide) (by decide +kernel)) dX6_covers_21 ?_
  refine xw_aload_n (pc := 24) dX6_covers_24 0 rfl ?_
  refine xm_getN (k := w) (pc := 25) hM fd_X6_62 dX6_covers_25 (by first | rfl | (simp [mset, mcpy]; done)) ?_
  refine xw_if_ne (pc := 28) 47 dX6_covers_28 rfl (fun hb28 => ?_) (fun hb28 => ?_)
  rotate_left
  · exfalso
    replace hb28 : w = 0 := (nI_eq (a := w) (b := 0) (by omega) (by omega)).mp hb28
    omega
  replace hb28 : ¬ (w = 0) := mt (nI_eq (a := w) (b := 0) (by omega) (by omega)).mpr hb28
  refine xw_iconst (v := nI 0) (pc := 47) dX6_covers_47 rfl ?_
  refine xw_iret (pc := 48) .boolean dX6_covers_48 rfl ?_ 
  exact ⟨rfl, rfl⟩
theorem SP_X6_holds_F {d : Nat} {g : xG} {m : Nat} {S : xMS} (hM : xMod g m) (rr : Nat) (hr : rr ≤ 16) (h1 : S 1 1 = nI rr) (v : Int32) (hv : ¬ inR v (nI 0) (nI rr - nI 1) = true) (a b c : Int32) : XM M_X6_holds (d + 5) [.ref m, .int v, .int a, .int b, .int c] (xWith g m S) (xOne (some (.int (nI 0))) (xWith g m (mset S 0 6 (nI 1)))) := by
  refine xm_of (by decide +kernel) (Nat.le_of_ble_eq_true rfl) ?_
  show XW _ _ 0 [(0, _), (1, _), (2, _), (3, _), (4, _)] [] _ _
  refine xw_aload_n (pc := 0) dX6_holds_0 0 rfl ?_
  refine xw_aload_n (pc := 1) dX6_holds_1 0 rfl ?_
  refine xw_iload_n (pc := 2) dX6_holds_2 1 rfl ?_
  refine xw_callV (pc := 3) (xr_V (as := [_]) ok_X6_isRule rfl (by decide) q2445 q2447 qs60 (by rw [xtag_with, hM.1]; rfl) (by rw [xtag_with, hM.1]; rfl) dX6_holds_3 rfl rfl (Nat.le_of_ble_eq_true rfl)) (SP_X6_isRuleF hM rr h1 (by assumption)) ?_
  refine xw_if_ne (pc := 6) 13 dX6_holds_6 rfl (fun hb => absurd hb (by decide)) (fun _ => ?_)
  refine xw_iconst (v := nI 1) (pc := 9) dX6_holds_9 rfl ?_
  refine xw_goto (pc := 10) 21 dX6_holds_10 rfl ?_
  refine xm_putI (pc := 21) hM fd_X6_62 (xfin_of (by decide) (by decide +kernel)) dX6_holds_21 ?_
  refine xw_aload_n (pc := 24) dX6_holds_24 0 rfl ?_
  refine xm_getN (k := 1) (pc := 25) hM fd_X6_62 dX6_holds_25 (by first | rfl | (simp [mset, mcpy]; done)) ?_
  refine xw_if_le (pc := 28) 33 dX6_holds_28 rfl (fun hb => absurd hb (by decide)) (fun _ => ?_)
  refine xw_iconst (v := nI 0) (pc := 31) dX6_holds_31 rfl ?_
  refine xw_iret (pc := 32) .boolean dX6_holds_32 rfl ?_ 
  exact ⟨rfl, rfl⟩
theorem SP_X6_holds_W {d : Nat} {g : xG} {m : Nat} {S : xMS} (hM : xMod g m) (rr : Nat) (hr : rr ≤ 16) (h1 : S 1 1 = nI rr) (r : Nat) (hrr : r < rr) (a b c : Int32) (w : Nat) (hw0 : 0 < w) (hw2 : w ≤ 2) (hw : wrongC S a b c = w) : XM M_X6_holds (d + 5) [.ref m, .int (nI r), .int a, .int b, .int c] (xWith g m S) (xOne (some (.int (nI 0))) (xWith g m (mset S 0 6 (nI w)))) := by
  refine xm_of (by decide +kernel) (Nat.le_of_ble_eq_true rfl) ?_
  show XW _ _ 0 [(0, _), (1, _), (2, _), (3, _), (4, _)] [] _ _
  refine xw_aload_n (pc := 0) dX6_holds_0 0 rfl ?_
  refine xw_aload_n (pc := 1) dX6_holds_1 0 rfl ?_
  refine xw_iload_n (pc := 2) dX6_holds_2 1 rfl ?_
  refine xw_callV (pc := 3) (xr_V (as := [_]) ok_X6_isRule rfl (by decide) q2445 q2447 qs60 (by rw [xtag_with, hM.1]; rfl) (by rw [xtag_with, hM.1]; rfl) dX6_holds_3 rfl rfl (Nat.le_of_ble_eq_true rfl)) (SP_X6_isRuleK hM r rr hr (by assumption) h1) ?_
  refine xw_if_ne (pc := 6) 13 dX6_holds_6 rfl (fun _ => ?_) (fun hb => absurd hb (by decide))
  refine xw_aload_n (pc := 13) dX6_holds_13 0 rfl ?_
  refine xw_iload_n (pc := 14) dX6_holds_14 2 rfl ?_
  refine xw_iload_n (pc := 15) dX6_holds_15 3 rfl ?_
  refine xw_iload (pc := 16) dX6_holds_16 4 rfl ?_
  refine xw_callV (pc := 18) (xr_V (as := [_, _, _]) ok_X6_wrongCase rfl (by decide) q2500 q2502 qs67 (by rw [xtag_with, hM.1]; rfl) (by rw [xtag_with, hM.1]; rfl) dX6_holds_18 rfl rfl (Nat.le_of_ble_eq_true rfl)) (SP_X6_wrongCaseW hM w hw) ?_
  refine xm_putI (pc := 21) hM fd_X6_62 (xfin_of (by decide) (by decide +kernel)) dX6_holds_21 ?_
  refine xw_aload_n (pc := 24) dX6_holds_24 0 rfl ?_
  refine xm_getN (k := w) (pc := 25) hM fd_X6_62 dX6_holds_25 (by first | rfl | (simp [mset, mcpy]; done)) ?_
  refine xw_if_le (pc := 28) 33 dX6_holds_28 rfl (fun hb28 => ?_) (fun hb28 => ?_)
  · exfalso
    replace hb28 : w ≤ 0 := (nI_leI (a := w) (b := 0) (by omega) (by omega)).mp hb28
    omega
  replace hb28 : ¬ (w ≤ 0) := mt (nI_leI (a := w) (b := 0) (by omega) (by omega)).mpr hb28
  refine xw_iconst (v := nI 0) (pc := 31) dX6_holds_31 rfl ?_
  refine xw_iret (pc := 32) .boolean dX6_holds_32 rfl ?_ 
  exact ⟨rfl, rfl⟩
theorem SP_X6_covers {d : Nat} {g : xG} {m : Nat} {S : xMS} (hM : xMod g m) (n rr k : Nat) (hn : n ≤ 10) (h0 : S 1 0 = nI n) (hr : rr ≤ 16) (hk : k < n) (h1 : S 1 1 = nI rr) (hW : WFo (S 1) n) (hWr : WFr (S 1) n rr) (day feats : Int32) (hcs : isCs day feats = true) (r : Nat) (hrr : r < rr) : XM M_X6_covers (d + 4) [.ref m, .int (nI r), .int (nI k), .int day, .int feats] (xWith g m S) (xOne (some (.int (bI (cov (S 1) (S 0 14) k day feats r)))) (xWith g m (mset S 0 6 (nI 0)))) := by
  have e1 : (mset S 0 6 (nI 0)) 1 = S 1 := mset_q (by decide)
  refine xm_of (by decide +kernel) (Nat.le_of_ble_eq_true rfl) ?_
  show XW _ _ 0 [(0, _), (1, _), (2, _), (3, _), (4, _)] [] _ _
  refine xw_aload_n (pc := 0) dX6_covers_0 0 rfl ?_
  refine xw_aload_n (pc := 1) dX6_covers_1 0 rfl ?_
  refine xw_iload_n (pc := 2) dX6_covers_2 1 rfl ?_
  refine xw_callV (pc := 3) (xr_V (as := [_]) ok_X6_isRule rfl (by decide) q2445 q2447 qs60 (by rw [xtag_with, hM.1]; rfl) (by rw [xtag_with, hM.1]; rfl) dX6_covers_3 rfl rfl (Nat.le_of_ble_eq_true rfl)) (SP_X6_isRuleK hM r rr hr (by assumption) h1) ?_
  refine xw_if_ne (pc := 6) 13 dX6_covers_6 rfl (fun _ => ?_) (fun hb => absurd hb (by decide))
  refine xw_aload_n (pc := 13) dX6_covers_13 0 rfl ?_
  refine xw_iload_n (pc := 14) dX6_covers_14 2 rfl ?_
  refine xw_iload_n (pc := 15) dX6_covers_15 3 rfl ?_
  refine xw_iload (pc := 16) dX6_covers_16 4 rfl ?_
  refine xw_callV (pc := 18) (xr_V (as := [_, _, _]) ok_X6_wrongCase rfl (by decide) q2500 q2502 qs67 (by rw [xtag_with, hM.1]; rfl) (by rw [xtag_with, hM.1]; rfl) dX6_covers_18 rfl rfl (Nat.le_of_ble_eq_true rfl)) (SP_X6_wrongCaseW hM 0 (wrongC_0 hn h0 hk hcs)) ?_
  refine xm_putI (pc := 21) hM fd_X6_62 (xfin_of (by decide) (by decide +kernel)) dX6_covers_21 ?_
  refine xw_aload_n (pc := 24) dX6_covers_24 0 rfl ?_
  refine xm_getN (k := 0) (pc := 25) hM fd_X6_62 dX6_covers_25 (by first | rfl | (simp [mset, mcpy]; done)) ?_
  refine xw_if_ne (pc := 28) 47 dX6_covers_28 rfl (fun hb => absurd hb (by decide)) (fun _ => ?_)
  refine xw_aload_n (pc := 31) dX6_covers_31 0 rfl ?_
  refine xw_iload_n (pc := 32) dX6_covers_32 1 rfl ?_
  refine xw_iload_n (pc := 33) dX6_covers_33 2 rfl ?_
  refine xw_iload_n (pc := 34) dX6_covers_34 3 rfl ?_
  refine xw_iload (pc := 35) dX6_covers_35 4 rfl ?_
  refine xw_callV (pc := 37) (xr_V (as := [_, _, _, _]) ok_X6_coversNow rfl (by decide) q2508 q2510 qs68 (by rw [xtag_with, hM.1]; rfl) (by rw [xtag_with, hM.1]; rfl) dX6_covers_37 rfl rfl (Nat.le_of_ble_eq_true rfl)) (SP_X6_coversC hM n rr hn hr (by rw [e1]; exact hW) (by rw [e1]; exact hWr) r k hrr hk day feats (cov (S 1) (S 0 14) k day feats r) (by rw [e1]; rfl)) ?_
  refine xw_if_eq (pc := 40) 47 dX6_covers_40 rfl (fun hb40 => ?_) (fun hb40 => ?_)
  · replace hb40 := bI_0.mp hb40
    refine xw_iconst (v := nI 0) (pc := 47) dX6_covers_47 rfl ?_
    refine xw_iret (pc := 48) .boolean dX6_covers_48 rfl ?_ 
    refine ⟨congrArg (fun x => Sum.inl (some (Value.int x))) ?_, rfl⟩
    rw [hb40]
    rfl
  · replace hb40 := bI_n0.mp hb40
    refine xw_iconst (v := nI 1) (pc := 43) dX6_covers_43 rfl ?_
    refine xw_goto (pc := 44) 48 dX6_covers_44 rfl ?_
    refine xw_iret (pc := 48) .boolean dX6_covers_48 rfl ?_ 
    refine ⟨congrArg (fun x => Sum.inl (some (Value.int x))) ?_, rfl⟩
    rw [hb40]
    rfl
theorem SP_X6_holds {d : Nat} {g : xG} {m : Nat} {S : xMS} (hM : xMod g m) (n rr k : Nat) (hn : n ≤ 10) (h0 : S 1 0 = nI n) (hr : rr ≤ 16) (hk : k < n) (h1 : S 1 1 = nI rr) (hW : WFo (S 1) n) (hWr : WFr (S 1) n rr) (day feats : Int32) (hcs : isCs day feats = true) (C H : Nat → Bool) (hC : C = cov (S 1) (S 0 14) k day feats) (hH : H = hld (isPa (S 1)) rr C) (r : Nat) (hrr : r < rr) : XM M_X6_holds (d + 5) [.ref m, .int (nI r), .int (nI k), .int day, .int feats] (xWith g m S) (xOne (some (.int (bI (H r)))) (xWith g m (lookP (mset S 0 6 (nI 0)) C H 0 rr))) := by
  have e1 : (mset S 0 6 (nI 0)) 1 = S 1 := mset_q (by decide)
  refine xm_of (by decide +kernel) (Nat.le_of_ble_eq_true rfl) ?_
  show XW _ _ 0 [(0, _), (1, _), (2, _), (3, _), (4, _)] [] _ _
  refine xw_aload_n (pc := 0) dX6_holds_0 0 rfl ?_
  refine xw_aload_n (pc := 1) dX6_holds_1 0 rfl ?_
  refine xw_iload_n (pc := 2) dX6_holds_2 1 rfl ?_
  refine xw_callV (pc := 3) (xr_V (as := [_]) ok_X6_isRule rfl (by decide) q2445 q2447 qs60 (by rw [xtag_with, hM.1]; rfl) (by rw [xtag_with, hM.1]; rfl) dX6_holds_3 rfl rfl (Nat.le_of_ble_eq_true rfl)) (SP_X6_isRuleK hM r rr hr (by assumption) h1) ?_
  refine xw_if_ne (pc := 6) 13 dX6_holds_6 rfl (fun _ => ?_) (fun hb => absurd hb (by decide))
  refine xw_aload_n (pc := 13) dX6_holds_13 0 rfl ?_
  refine xw_iload_n (pc := 14) dX6_holds_14 2 rfl ?_
  refine xw_iload_n (pc := 15) dX6_holds_15 3 rfl ?_
  refine xw_iload (pc := 16) dX6_holds_16 4 rfl ?_
  refine xw_callV (pc := 18) (xr_V (as := [_, _, _]) ok_X6_wrongCase rfl (by decide) q2500 q2502 qs67 (by rw [xtag_with, hM.1]; rfl) (by rw [xtag_with, hM.1]; rfl) dX6_holds_18 rfl rfl (Nat.le_of_ble_eq_true rfl)) (SP_X6_wrongCaseW hM 0 (wrongC_0 hn h0 hk hcs)) ?_
  refine xm_putI (pc := 21) hM fd_X6_62 (xfin_of (by decide) (by decide +kernel)) dX6_holds_21 ?_
  refine xw_aload_n (pc := 24) dX6_holds_24 0 rfl ?_
  refine xm_getN (k := 0) (pc := 25) hM fd_X6_62 dX6_holds_25 (by first | rfl | (simp [mset, mcpy]; done)) ?_
  refine xw_if_le (pc := 28) 33 dX6_holds_28 rfl (fun _ => ?_) (fun hb => absurd hb (by decide))
  refine xw_aload_n (pc := 33) dX6_holds_33 0 rfl ?_
  refine xw_iload_n (pc := 34) dX6_holds_34 2 rfl ?_
  refine xw_iload_n (pc := 35) dX6_holds_35 3 rfl ?_
  refine xw_iload (pc := 36) dX6_holds_36 4 rfl ?_
  refine xw_callU (pc := 38) (xr_V (as := [_, _, _]) ok_X6_look rfl (by decide) q2519 q2521 qs69 (by rw [xtag_with, hM.1]; rfl) (by rw [xtag_with, hM.1]; rfl) dX6_holds_38 rfl rfl (Nat.le_of_ble_eq_true rfl)) (SP_X6_look hM n rr k hn hr hk (by rw [e1]; exact h1) (by rw [e1]; exact hW) (by rw [e1]; exact hWr) day feats C H (by rw [e1]; exact hC) (by rw [e1]; exact hH)) ?_
  refine xw_aload_n (pc := 41) dX6_holds_41 0 rfl ?_
  refine xm_get (p := 7) (pc := 42) hM fd_X6_29 dX6_holds_42 rfl ?_
  refine xw_iload_n (pc := 45) dX6_holds_45 1 rfl ?_
  refine xm_zaldB (b := H r) (pc := 46) hM dX6_holds_46 rfl (by omega) (by exact lookP_7 (Nat.zero_le r) hrr) ?_
  refine xw_iret (pc := 47) .boolean dX6_holds_47 rfl ?_ (by first | rfl | (cases ‹Bool› <;> rfl) | exact xnB _)
  exact ⟨rfl, rfl⟩
theorem SP_X6_holdsAgain_F {d : Nat} {g : xG} {m : Nat} {S : xMS} (hM : xMod g m) (rr : Nat) (hr : rr ≤ 16) (h1 : S 1 1 = nI rr) (v : Int32) (hv : ¬ inR v (nI 0) (nI rr - nI 1) = true) (a b c : Int32) : XM M_X6_holdsAgain (d + 6) [.ref m, .int v, .int a, .int b, .int c] (xWith g m S) (xOne (some (.int (nI 0))) (xWith g m (mset S 0 6 (nI 1)))) := by
  refine xm_of (by decide +kernel) (Nat.le_of_ble_eq_true rfl) ?_
  show XW _ _ 0 [(0, _), (1, _), (2, _), (3, _), (4, _)] [] _ _
  refine xw_aload_n (pc := 0) dX6_holdsAgain_0 0 rfl ?_
  refine xw_iload_n (pc := 1) dX6_holdsAgain_1 1 rfl ?_
  refine xw_iload_n (pc := 2) dX6_holdsAgain_2 2 rfl ?_
  refine xw_iload_n (pc := 3) dX6_holdsAgain_3 3 rfl ?_
  refine xw_iload (pc := 4) dX6_holdsAgain_4 4 rfl ?_
  refine xw_callV (pc := 6) (xr_V (as := [_, _, _, _]) ok_X6_holds rfl (by decide) q2527 q2516 q2517 (by rw [xtag_with, hM.1]; rfl) (by rw [xtag_with, hM.1]; rfl) dX6_holdsAgain_6 rfl rfl (Nat.le_of_ble_eq_true rfl)) (SP_X6_holds_F hM rr hr h1 v hv _ _ _) ?_
  refine xw_iret (pc := 9) .boolean dX6_holdsAgain_9 rfl ?_ 
  exact ⟨rfl, rfl⟩
theorem SP_X6_holdsAgain_W {d : Nat} {g : xG} {m : Nat} {S : xMS} (hM : xMod g m) (rr : Nat) (hr : rr ≤ 16) (h1 : S 1 1 = nI rr) (r : Nat) (hrr : r < rr) (a b c : Int32) (w : Nat) (hw0 : 0 < w) (hw2 : w ≤ 2) (hw : wrongC S a b c = w) : XM M_X6_holdsAgain (d + 6) [.ref m, .int (nI r), .int a, .int b, .int c] (xWith g m S) (xOne (some (.int (nI 0))) (xWith g m (mset S 0 6 (nI w)))) := by
  refine xm_of (by decide +kernel) (Nat.le_of_ble_eq_true rfl) ?_
  show XW _ _ 0 [(0, _), (1, _), (2, _), (3, _), (4, _)] [] _ _
  refine xw_aload_n (pc := 0) dX6_holdsAgain_0 0 rfl ?_
  refine xw_iload_n (pc := 1) dX6_holdsAgain_1 1 rfl ?_
  refine xw_iload_n (pc := 2) dX6_holdsAgain_2 2 rfl ?_
  refine xw_iload_n (pc := 3) dX6_holdsAgain_3 3 rfl ?_
  refine xw_iload (pc := 4) dX6_holdsAgain_4 4 rfl ?_
  refine xw_callV (pc := 6) (xr_V (as := [_, _, _, _]) ok_X6_holds rfl (by decide) q2527 q2516 q2517 (by rw [xtag_with, hM.1]; rfl) (by rw [xtag_with, hM.1]; rfl) dX6_holdsAgain_6 rfl rfl (Nat.le_of_ble_eq_true rfl)) (SP_X6_holds_W hM rr hr h1 r hrr _ _ _ w hw0 hw2 hw) ?_
  refine xw_iret (pc := 9) .boolean dX6_holdsAgain_9 rfl ?_ 
  exact ⟨rfl, rfl⟩
theorem SP_X6_holdsAgain {d : Nat} {g : xG} {m : Nat} {S : xMS} (hM : xMod g m) (n rr k : Nat) (hn : n ≤ 10) (h0 : S 1 0 = nI n) (hr : rr ≤ 16) (hk : k < n) (h1 : S 1 1 = nI rr) (hW : WFo (S 1) n) (hWr : WFr (S 1) n rr) (day feats : Int32) (hcs : isCs day feats = true) (C H : Nat → Bool) (hC : C = cov (S 1) (S 0 14) k day feats) (hH : H = hld (isPa (S 1)) rr C) (r : Nat) (hrr : r < rr) : XM M_X6_holdsAgain (d + 6) [.ref m, .int (nI r), .int (nI k), .int day, .int feats] (xWith g m S) (xOne (some (.int (bI (H r)))) (xWith g m (lookP (mset S 0 6 (nI 0)) C H 0 rr))) := by
  refine xm_of (by decide +kernel) (Nat.le_of_ble_eq_true rfl) ?_
  show XW _ _ 0 [(0, _), (1, _), (2, _), (3, _), (4, _)] [] _ _
  refine xw_aload_n (pc := 0) dX6_holdsAgain_0 0 rfl ?_
  refine xw_iload_n (pc := 1) dX6_holdsAgain_1 1 rfl ?_
  refine xw_iload_n (pc := 2) dX6_holdsAgain_2 2 rfl ?_
  refine xw_iload_n (pc := 3) dX6_holdsAgain_3 3 rfl ?_
  refine xw_iload (pc := 4) dX6_holdsAgain_4 4 rfl ?_
  refine xw_callV (pc := 6) (xr_V (as := [_, _, _, _]) ok_X6_holds rfl (by decide) q2527 q2516 q2517 (by rw [xtag_with, hM.1]; rfl) (by rw [xtag_with, hM.1]; rfl) dX6_holdsAgain_6 rfl rfl (Nat.le_of_ble_eq_true rfl)) (SP_X6_holds hM n rr k hn h0 hr hk h1 hW hWr day feats hcs C H hC hH r hrr) ?_
  refine xw_iret (pc := 9) .boolean dX6_holdsAgain_9 rfl ?_ (by first | rfl | (cases ‹Bool› <;> rfl) | exact xnB _)
  exact ⟨rfl, rfl⟩
theorem SP_X6_outcome_W {d : Nat} {g : xG} {m : Nat} {S : xMS} (hM : xMod g m) (a b c : Int32) (w : Nat) (hw0 : 0 < w) (hw2 : w ≤ 2) (hw : wrongC S a b c = w) : XM M_X6_outcome (d + 4) [.ref m, .int a, .int b, .int c] (xWith g m S) (xOne (some (.int (nI 0))) (xWith g m (mset S 0 6 (nI w)))) := by
  refine xm_of (by decide +kernel) (Nat.le_of_ble_eq_true rfl) ?_
  show XW _ _ 0 [(0, _), (1, _), (2, _), (3, _)] [] _ _
  refine xw_aload_n (pc := 0) dX6_outcome_0 0 rfl ?_
  refine xw_aload_n (pc := 1) dX6_outcome_1 0 rfl ?_
  refine xw_iload_n (pc := 2) dX6_outcome_2 1 rfl ?_
  refine xw_iload_n (pc := 3) dX6_outcome_3 2 rfl ?_
  refine xw_iload_n (pc := 4) dX6_outcome_4 3 rfl ?_
  refine xw_callV (pc := 5) (xr_V (as := [_, _, _]) ok_X6_wrongCase rfl (by decide) q2500 q2502 qs67 (by rw [xtag_with, hM.1]; rfl) (by rw [xtag_with, hM.1]; rfl) dX6_outcome_5 rfl rfl (Nat.le_of_ble_eq_true rfl)) (SP_X6_wrongCaseW hM w hw) ?_
  refine xm_putI (pc := 8) hM fd_X6_62 (xfin_of (by decide) (by decide +kernel)) dX6_outcome_8 ?_
  refine xw_aload_n (pc := 11) dX6_outcome_11 0 rfl ?_
  refine xm_getN (k := w) (pc := 12) hM fd_X6_62 dX6_outcome_12 (by first | rfl | (simp [mset, mcpy]; done)) ?_
  refine xw_if_le (pc := 15) 22 dX6_outcome_15 rfl (fun hb15 => ?_) (fun hb15 => ?_)
  · exfalso
    replace hb15 : w ≤ 0 := (nI_leI (a := w) (b := 0) (by omega) (by omega)).mp hb15
    omega
  replace hb15 : ¬ (w ≤ 0) := mt (nI_leI (a := w) (b := 0) (by omega) (by omega)).mpr hb15
  refine xw_iconst (v := nI 0) (pc := 18) dX6_outcome_18 rfl ?_
  refine xw_goto (pc := 19) 29 dX6_outcome_19 rfl ?_
  refine xw_iret (pc := 29) .int dX6_outcome_29 rfl ?_ 
  exact ⟨rfl, rfl⟩
theorem SP_X6_outcome {d : Nat} {g : xG} {m : Nat} {S : xMS} (hM : xMod g m) (n rr k : Nat) (hn : n ≤ 10) (h0 : S 1 0 = nI n) (hr : rr ≤ 16) (hk : k < n) (h1 : S 1 1 = nI rr) (hW : WFo (S 1) n) (hWr : WFr (S 1) n rr) (day feats : Int32) (hcs : isCs day feats = true) (C H : Nat → Bool) (hC : C = cov (S 1) (S 0 14) k day feats) (hH : H = hld (isPa (S 1)) rr C) (h4 : ¬ S 1 4 < 0) : XM M_X6_outcome (d + 5) [.ref m, .int (nI k), .int day, .int feats] (xWith g m S) (xOne (some (.int (ocm (S 1) H rr k))) (xWith g m (lookP (mset S 0 6 (nI 0)) C H 0 rr))) := by
  have e1 : (mset S 0 6 (nI 0)) 1 = S 1 := mset_q (by decide)
  refine xm_of (by decide +kernel) (Nat.le_of_ble_eq_true rfl) ?_
  show XW _ _ 0 [(0, _), (1, _), (2, _), (3, _)] [] _ _
  refine xw_aload_n (pc := 0) dX6_outcome_0 0 rfl ?_
  refine xw_aload_n (pc := 1) dX6_outcome_1 0 rfl ?_
  refine xw_iload_n (pc := 2) dX6_outcome_2 1 rfl ?_
  refine xw_iload_n (pc := 3) dX6_outcome_3 2 rfl ?_
  refine xw_iload_n (pc := 4) dX6_outcome_4 3 rfl ?_
  refine xw_callV (pc := 5) (xr_V (as := [_, _, _]) ok_X6_wrongCase rfl (by decide) q2500 q2502 qs67 (by rw [xtag_with, hM.1]; rfl) (by rw [xtag_with, hM.1]; rfl) dX6_outcome_5 rfl rfl (Nat.le_of_ble_eq_true rfl)) (SP_X6_wrongCaseW hM 0 (wrongC_0 hn h0 hk hcs)) ?_
  refine xm_putI (pc := 8) hM fd_X6_62 (xfin_of (by decide) (by decide +kernel)) dX6_outcome_8 ?_
  refine xw_aload_n (pc := 11) dX6_outcome_11 0 rfl ?_
  refine xm_getN (k := 0) (pc := 12) hM fd_X6_62 dX6_outcome_12 (by first | rfl | (simp [mset, mcpy]; done)) ?_
  refine xw_if_le (pc := 15) 22 dX6_outcome_15 rfl (fun _ => ?_) (fun hb => absurd hb (by decide))
  refine xw_aload_n (pc := 22) dX6_outcome_22 0 rfl ?_
  refine xw_iload_n (pc := 23) dX6_outcome_23 1 rfl ?_
  refine xw_iload_n (pc := 24) dX6_outcome_24 2 rfl ?_
  refine xw_iload_n (pc := 25) dX6_outcome_25 3 rfl ?_
  refine xw_callV (pc := 26) (xr_V (as := [_, _, _]) ok_X6_outcomeOf rfl (by decide) q2532 q2534 qs70 (by rw [xtag_with, hM.1]; rfl) (by rw [xtag_with, hM.1]; rfl) dX6_outcome_26 rfl rfl (Nat.le_of_ble_eq_true rfl)) (SP_X6_outcomeOf hM n rr k hn hr hk (by rw [e1]; exact h1) (by rw [e1]; exact hW) (by rw [e1]; exact hWr) day feats C H (by rw [e1]; exact hC) (by rw [e1]; exact hH) (by rw [e1]; exact h4)) ?_
  refine xw_iret (pc := 29) .int dX6_outcome_29 rfl ?_ 
  exact ⟨by rw [e1], rfl⟩
theorem SP_X6_chain_W {d : Nat} {g : xG} {m : Nat} {S : xMS} (hM : xMod g m) (a b c e : Int32) (w : Nat) (hw0 : 0 < w) (hw2 : w ≤ 2) (hw : wrongC S a b c = w) : XM M_X6_chain (d + 5) [.ref m, .int a, .int b, .int c, .int e] (xWith g m S) (xOne (some (.int (nI 0))) (xWith g m (mset S 0 6 (nI w)))) := by
  refine xm_of (by decide +kernel) (Nat.le_of_ble_eq_true rfl) ?_
  show XW _ _ 0 [(0, _), (1, _), (2, _), (3, _), (4, _)] [] _ _
  refine xw_aload_n (pc := 0) dX6_chain_0 0 rfl ?_
  refine xw_aload_n (pc := 1) dX6_chain_1 0 rfl ?_
  refine xw_iload_n (pc := 2) dX6_chain_2 1 rfl ?_
  refine xw_iload_n (pc := 3) dX6_chain_3 2 rfl ?_
  refine xw_iload_n (pc := 4) dX6_chain_4 3 rfl ?_
  refine xw_callV (pc := 5) (xr_V (as := [_, _, _]) ok_X6_wrongCase rfl (by decide) q2500 q2502 qs67 (by rw [xtag_with, hM.1]; rfl) (by rw [xtag_with, hM.1]; rfl) dX6_chain_5 rfl rfl (Nat.le_of_ble_eq_true rfl)) (SP_X6_wrongCaseW hM w hw) ?_
  refine xm_putI (pc := 8) hM fd_X6_62 (xfin_of (by decide) (by decide +kernel)) dX6_chain_8 ?_
  refine xw_aload_n (pc := 11) dX6_chain_11 0 rfl ?_
  refine xm_getN (k := w) (pc := 12) hM fd_X6_62 dX6_chain_12 (by first | rfl | (simp [mset, mcpy]; done)) ?_
  refine xw_if_le (pc := 15) 20 dX6_chain_15 rfl (fun hb15 => ?_) (fun hb15 => ?_)
  · exfalso
    replace hb15 : w ≤ 0 := (nI_leI (a := w) (b := 0) (by omega) (by omega)).mp hb15
    omega
  replace hb15 : ¬ (w ≤ 0) := mt (nI_leI (a := w) (b := 0) (by omega) (by omega)).mpr hb15
  refine xw_iconst (v := nI 0) (pc := 18) dX6_chain_18 rfl ?_
  refine xw_iret (pc := 19) .int dX6_chain_19 rfl ?_ 
  exact ⟨rfl, rfl⟩
theorem chn_len {s : Nat → Int32} {C H : Nat → Bool} {rr : Nat} : (chn s C H rr).length ≤ rr := by
  unfold chn
  cases hp : prvK s H rr with
  | none => exact Nat.zero_le _
  | some r => exact Nat.le_trans (chF_len rr r (prvK_lt hp)) (Nat.sub_le _ _)
def opChain (T : xMS) (L : List Nat) (x : Int32) : Int32 × xMS := if inR x (-1) (nI L.length - nI 1) = false then (nI 0, mset T 0 6 (nI 3)) else if x < 0 then (nI L.length, mset T 0 6 (nI 0)) else (nI (L.getD x.toNatClampNeg 0), mset T 0 6 (nI 0))
theorem inR_m1 {x : Int32} {n : Nat} (hn : n ≤ 1000) (h : inR x (-1) (nI n - nI 1) = true) : x = -1 ∨ ∃ j, j < n ∧ x = nI j := by
  by_cases h0 : x < 0
  · refine Or.inl ?_
    unfold inR at h
    simp only [Bool.and_eq_true, Bool.not_eq_true', decide_eq_false_iff_not] at h
    have h1 := h.1
    rw [Int32.lt_iff_toInt_lt] at h0 h1
    have e0 : (0 : Int32).toInt = 0 := rfl
    have e1 : (-1 : Int32).toInt = -1 := rfl
    rw [e0] at h0
    rw [e1] at h1
    apply Int32.toInt_inj.mp
    rw [e1]
    omega
  · refine Or.inr ?_
    refine inR_ex hn ?_
    unfold inR at h ⊢
    simp only [Bool.and_eq_true, Bool.not_eq_true', decide_eq_false_iff_not] at h ⊢
    exact ⟨h0, h.2⟩
theorem SP_X6_chain {d : Nat} {g : xG} {m : Nat} {S : xMS} (hM : xMod g m) (n rr k : Nat) (hn : n ≤ 10) (h0 : S 1 0 = nI n) (hr : rr ≤ 16) (hk : k < n) (h1 : S 1 1 = nI rr) (hW : WFo (S 1) n) (hWr : WFr (S 1) n rr) (day feats : Int32) (hcs : isCs day feats = true) (C H : Nat → Bool) (hC : C = cov (S 1) (S 0 14) k day feats) (hH : H = hld (isPa (S 1)) rr C) (x : Int32) : XM M_X6_chain (d + 5) [.ref m, .int (nI k), .int day, .int feats, .int x] (xWith g m S) (xOne (some (.int (opChain (chnS (lookP (mset S 0 6 (nI 0)) C H 0 rr) (chn (S 1) C H rr)) (chn (S 1) C H rr) x).1)) (xWith g m (opChain (chnS (lookP (mset S 0 6 (nI 0)) C H 0 rr) (chn (S 1) C H rr)) (chn (S 1) C H rr) x).2)) := by
  have e1 : (mset S 0 6 (nI 0)) 1 = S 1 := mset_q (by decide)
  have hln := @chn_len (S 1) C H rr
  have hcm : chnS (lookP (mset S 0 6 (nI 0)) C H 0 rr) (chn (S 1) C H rr) 0 16 = nI (chn (S 1) C H rr).length := by rw [chnS_0, if_pos rfl]
  refine xm_of (by decide +kernel) (Nat.le_of_ble_eq_true rfl) ?_
  show XW _ _ 0 [(0, _), (1, _), (2, _), (3, _), (4, _)] [] _ _
  refine xw_aload_n (pc := 0) dX6_chain_0 0 rfl ?_
  refine xw_aload_n (pc := 1) dX6_chain_1 0 rfl ?_
  refine xw_iload_n (pc := 2) dX6_chain_2 1 rfl ?_
  refine xw_iload_n (pc := 3) dX6_chain_3 2 rfl ?_
  refine xw_iload_n (pc := 4) dX6_chain_4 3 rfl ?_
  refine xw_callV (pc := 5) (xr_V (as := [_, _, _]) ok_X6_wrongCase rfl (by decide) q2500 q2502 qs67 (by rw [xtag_with, hM.1]; rfl) (by rw [xtag_with, hM.1]; rfl) dX6_chain_5 rfl rfl (Nat.le_of_ble_eq_true rfl)) (SP_X6_wrongCaseW hM 0 (wrongC_0 hn h0 hk hcs)) ?_
  refine xm_putI (pc := 8) hM fd_X6_62 (xfin_of (by decide) (by decide +kernel)) dX6_chain_8 ?_
  refine xw_aload_n (pc := 11) dX6_chain_11 0 rfl ?_
  refine xm_getN (k := 0) (pc := 12) hM fd_X6_62 dX6_chain_12 (by first | rfl | (simp [mset, mcpy]; done)) ?_
  refine xw_if_le (pc := 15) 20 dX6_chain_15 rfl (fun _ => ?_) (fun hb => absurd hb (by decide))
  refine xw_aload_n (pc := 20) dX6_chain_20 0 rfl ?_
  refine xw_iload_n (pc := 21) dX6_chain_21 1 rfl ?_
  refine xw_iload_n (pc := 22) dX6_chain_22 2 rfl ?_
  refine xw_iload_n (pc := 23) dX6_chain_23 3 rfl ?_
  refine xw_callU (pc := 24) (xr_V (as := [_, _, _]) ok_X6_findChain rfl (by decide) q2548 q2550 qs73 (by rw [xtag_with, hM.1]; rfl) (by rw [xtag_with, hM.1]; rfl) dX6_chain_24 rfl rfl (Nat.le_of_ble_eq_true rfl)) (SP_X6_findChain hM n rr k hn hr hk (by rw [e1]; exact h1) (by rw [e1]; exact hW) (by rw [e1]; exact hWr) day feats C H (by rw [e1]; exact hC) (by rw [e1]; exact hH)) ?_
  rw [e1]
  refine xw_aload_n (pc := 27) dX6_chain_27 0 rfl ?_
  refine xw_iload (pc := 28) dX6_chain_28 4 rfl ?_
  refine xw_iconst (v := -1) (pc := 30) dX6_chain_30 (by decide +kernel) ?_
  refine xw_aload_n (pc := 31) dX6_chain_31 0 rfl ?_
  refine xm_getN (k := (chn (S 1) C H rr).length) (pc := 32) hM fd_X6_188 dX6_chain_32 (by exact hcm) ?_
  refine xw_iconst (v := nI 1) (pc := 35) dX6_chain_35 rfl ?_
  refine xw_isub (pc := 36) dX6_chain_36 ?_
  refine xw_callV (pc := 37) (xr_S (as := [_, _, _]) ok_X6_in rfl (by decide) q2364 q2365 dX6_chain_37 rfl rfl (Nat.le_of_ble_eq_true rfl)) (SP_X6_in) ?_
  refine xw_if_eq (pc := 40) 47 dX6_chain_40 rfl (fun hb40 => ?_) (fun hb40 => ?_)
  · replace hb40 := bI_0.mp hb40
    refine xw_iconst (v := nI 3) (pc := 47) dX6_chain_47 rfl ?_
    refine xm_putI (pc := 48) hM fd_X6_62 (xfin_of (by decide) (by decide +kernel)) dX6_chain_48 ?_
    refine xw_aload_n (pc := 51) dX6_chain_51 0 rfl ?_
    refine xm_getN (k := 3) (pc := 52) hM fd_X6_62 dX6_chain_52 (by first | rfl | (simp [mset, mcpy]; done)) ?_
    refine xw_if_le (pc := 55) 62 dX6_chain_55 rfl (fun hb => absurd hb (by decide)) (fun _ => ?_)
    refine xw_iconst (v := nI 0) (pc := 58) dX6_chain_58 rfl ?_
    refine xw_goto (pc := 59) 81 dX6_chain_59 rfl ?_
    refine xw_iret (pc := 81) .int dX6_chain_81 rfl ?_ 
    first
      | (refine ⟨?_, ?_⟩ <;> simp_all [opChain, mset]; done)
      | (have hneg := Int32.not_lt.mpr hb64
         refine ⟨?_, ?_⟩ <;> (unfold opChain; rw [if_neg (by rw [hb40]; decide), if_neg hneg]) <;> simp only [hcl])
  · replace hb40 := bI_n0.mp hb40
    refine xw_iconst (v := nI 0) (pc := 43) dX6_chain_43 rfl ?_
    refine xw_goto (pc := 44) 48 dX6_chain_44 rfl ?_
    refine xm_putI (pc := 48) hM fd_X6_62 (xfin_of (by decide) (by decide +kernel)) dX6_chain_48 ?_
    refine xw_aload_n (pc := 51) dX6_chain_51 0 rfl ?_
    refine xm_getN (k := 0) (pc := 52) hM fd_X6_62 dX6_chain_52 (by first | rfl | (simp [mset, mcpy]; done)) ?_
    refine xw_if_le (pc := 55) 62 dX6_chain_55 rfl (fun _ => ?_) (fun hb => absurd hb (by decide))
    refine xw_iload (pc := 62) dX6_chain_62 4 rfl ?_
    refine xw_if_ge (pc := 64) 74 dX6_chain_64 rfl (fun hb64 => ?_) (fun hb64 => ?_)
    · obtain ⟨j, hj, rfl⟩ : ∃ j, j < (chn (S 1) C H rr).length ∧ x = nI j := by
        rcases inR_m1 (by omega) hb40 with rfl | h
        · exact absurd hb64 (by decide)
        · exact h
      have hcl : (nI j).toNatClampNeg = j := nI_clamp (by omega)
      refine xw_aload_n (pc := 74) dX6_chain_74 0 rfl ?_
      refine xm_get (p := 8) (pc := 75) hM fd_X6_36 dX6_chain_75 rfl ?_
      refine xw_iload (pc := 78) dX6_chain_78 4 rfl ?_
      refine xm_ialdN (v := (chn (S 1) C H rr).getD j 0) (pc := 80) hM dX6_chain_80 rfl (by omega) (by rw [mset_q (by decide)]; exact chnS_8 hj) ?_
      refine xw_iret (pc := 81) .int dX6_chain_81 rfl ?_ 
      first
        | (refine ⟨?_, ?_⟩ <;> simp_all [opChain, mset]; done)
        | (have hneg := Int32.not_lt.mpr hb64
           refine ⟨?_, ?_⟩ <;> (unfold opChain; rw [if_neg (by rw [hb40]; decide), if_neg hneg]) <;> simp only [hcl])
    · refine xw_aload_n (pc := 67) dX6_chain_67 0 rfl ?_
      refine xm_getI (pc := 68) hM fd_X6_188 dX6_chain_68 ?_
      refine xw_goto (pc := 71) 81 dX6_chain_71 rfl ?_
      refine xw_iret (pc := 81) .int dX6_chain_81 rfl ?_ 
      first
        | (refine ⟨?_, ?_⟩ <;> simp_all [opChain, mset]; done)
        | (have hneg := Int32.not_lt.mpr hb64
           refine ⟨?_, ?_⟩ <;> (unfold opChain; rw [if_neg (by rw [hb40]; decide), if_neg hneg]) <;> simp only [hcl])
def isRv (s : Nat → Int32) (H : Nat → Bool) (f r : Nat) : Bool := isMa s r && (H r && (!decide (r = f) && (!decide (s (23 + 20 * r + 0) = s (23 + 20 * f + 0)) && decide (abv s r f = 0))))
def rvK (P : Nat → Bool) (x : Int32) : Nat → Nat → Nat → Option Nat
  | 0, _, _ => none
  | j + 1, r, c => if P r = true then (if nI c = x then some r else rvK P x j (r + 1) (c + 1)) else rvK P x j (r + 1) c
def opRival (T : xMS) (P : Nat → Bool) (rr : Nat) (x : Int32) : Int32 × xMS := match rvK P x rr 0 0 with
  | some r => (nI r, T)
  | none => (if x = -1 then nI (cntB P rr) else nI 0, mset T 0 6 (if x = -1 then nI 0 else nI 3))
theorem lpe_X6_rival {d : Nat} {g : xG} {m : Nat} {S : xMS} (hM : xMod g m) {a b c : Int32} {x : Int32} {f : Int32} {r cn : Nat} (hc : cn ≤ 1000) : XW M_X6_rival (d + 4) 153 [(7, .int (nI r)), (6, .int (nI cn)), (5, .int f), (0, .ref m), (1, .int a), (2, .int b), (3, .int c), (4, .int x)] [] (xWith g m S) (xOne (some (.int (if x = -1 then nI cn else nI 0))) (xWith g m (mset S 0 6 (if x = -1 then nI 0 else nI 3)))) := by
  refine xw_aload_n (pc := 153) dX6_rival_153 3 rfl ?_
  refine xw_iload (pc := 154) dX6_rival_154 7 rfl ?_
  refine xw_iconst (v := -1) (pc := 156) dX6_rival_156 (by decide +kernel) ?_
  refine xw_icmp_ne (pc := 157) 164 dX6_rival_157 rfl (fun hb157 => ?_) (fun hb157 => ?_)
  · refine xw_iconst (v := nI 3) (pc := 164) dX6_rival_164 rfl ?_
    refine xm_putI (pc := 165) hM fd_X6_62 (xfin_of (by decide) (by decide +kernel)) dX6_rival_165 ?_
    refine xw_aload_n (pc := 168) dX6_rival_168 3 rfl ?_
    refine xm_getN (k := 3) (pc := 169) hM fd_X6_62 dX6_rival_169 (by first | rfl | (simp [mset, mcpy]; done)) ?_
    refine xw_if_le (pc := 172) 179 dX6_rival_172 rfl (fun hb => absurd hb (by decide)) (fun _ => ?_)
    refine xw_iconst (v := nI 0) (pc := 175) dX6_rival_175 rfl ?_
    refine xw_goto (pc := 176) 181 dX6_rival_176 rfl ?_
    refine xw_iret (pc := 181) .int dX6_rival_181 rfl ?_ 
    refine ⟨?_, ?_⟩ <;> simp_all
  · refine xw_iconst (v := nI 0) (pc := 160) dX6_rival_160 rfl ?_
    refine xw_goto (pc := 161) 165 dX6_rival_161 rfl ?_
    refine xm_putI (pc := 165) hM fd_X6_62 (xfin_of (by decide) (by decide +kernel)) dX6_rival_165 ?_
    refine xw_aload_n (pc := 168) dX6_rival_168 3 rfl ?_
    refine xm_getN (k := 0) (pc := 169) hM fd_X6_62 dX6_rival_169 (by first | rfl | (simp [mset, mcpy]; done)) ?_
    refine xw_if_le (pc := 172) 179 dX6_rival_172 rfl (fun _ => ?_) (fun hb => absurd hb (by decide))
    refine xw_iload (pc := 179) dX6_rival_179 1 rfl ?_
    refine xw_iret (pc := 181) .int dX6_rival_181 rfl ?_ 
    refine ⟨?_, ?_⟩ <;> simp_all
theorem lp_X6_rival {d : Nat} {g : xG} {m : Nat} {S : xMS} (hM : xMod g m) (n rr : Nat) (hn : n ≤ 10) (hr : rr ≤ 16) (h1 : S 1 1 = nI rr) (hW : WFo (S 1) n) (hWr : WFr (S 1) n rr) (H : Nat → Bool) (hH : ∀ r, r < rr → S 7 r = bI (H r)) (f : Nat) (hf : f < rr) {a b c : Int32} {x : Int32} {Q : Option Value ⊕ Nat → xG → Prop}
    : ∀ (j r cn : Nat), r + j = rr → cn ≤ r → cn = cntB (isRv (S 1) H f) r → (∀ r', rvK (isRv (S 1) H f) x j r cn = some r' → Q (.inl (some (.int (nI r')))) (xWith g m S)) → (rvK (isRv (S 1) H f) x j r cn = none → ∀ r', XW M_X6_rival (d + 4) 153 [(7, .int (nI r')), (6, .int (nI (cntB (isRv (S 1) H f) rr))), (5, .int (nI f)), (0, .ref m), (1, .int a), (2, .int b), (3, .int c), (4, .int x)] [] (xWith g m S) Q) → XW M_X6_rival (d + 4) 39 [(7, .int (nI r)), (6, .int (nI cn)), (5, .int (nI f)), (0, .ref m), (1, .int a), (2, .int b), (3, .int c), (4, .int x)] [] (xWith g m S) Q := by
  intro j
  induction j with
  | zero =>
    intro r cn hj hcn hcc hq1 hq2
    refine xw_iload (pc := 39) dX6_rival_39 0 rfl ?_
    refine xw_aload_n (pc := 41) dX6_rival_41 3 rfl ?_
    refine xm_get (p := 1) (pc := 42) hM fd_X6_9 dX6_rival_42 rfl ?_
    refine xw_iconst (v := nI 1) (pc := 45) dX6_rival_45 rfl ?_
    refine xm_ialdN (v := rr) (pc := 46) hM dX6_rival_46 rfl (by omega) (by exact h1) ?_
    refine xw_icmp_ge (pc := 47) 153 dX6_rival_47 rfl (fun hb47 => ?_) (fun hb47 => ?_)
    rotate_left
    · exfalso
      replace hb47 : ¬ (rr ≤ r) := mt (nI_leI (a := rr) (b := r) (by omega) (by omega)).mpr hb47
      omega
    replace hb47 : rr ≤ r := (nI_leI (a := rr) (b := r) (by omega) (by omega)).mp hb47
    obtain rfl : r = rr := by omega
    rw [hcc]
    exact hq2 rfl _
  | succ j ih =>
    intro r cn hj hcn hcc hq1 hq2
    have hrr : r < rr := by omega
    refine xw_iload (pc := 39) dX6_rival_39 0 rfl ?_
    refine xw_aload_n (pc := 41) dX6_rival_41 3 rfl ?_
    refine xm_get (p := 1) (pc := 42) hM fd_X6_9 dX6_rival_42 rfl ?_
    refine xw_iconst (v := nI 1) (pc := 45) dX6_rival_45 rfl ?_
    refine xm_ialdN (v := rr) (pc := 46) hM dX6_rival_46 rfl (by omega) (by exact h1) ?_
    refine xw_icmp_ge (pc := 47) 153 dX6_rival_47 rfl (fun hb47 => ?_) (fun hb47 => ?_)
    · exfalso
      replace hb47 : rr ≤ r := (nI_leI (a := rr) (b := r) (by omega) (by omega)).mp hb47
      omega
    replace hb47 : ¬ (rr ≤ r) := mt (nI_leI (a := rr) (b := r) (by omega) (by omega)).mpr hb47
    refine xw_iload (pc := 50) dX6_rival_50 2 rfl ?_
    refine xw_if_lt (pc := 52) 153 dX6_rival_52 rfl (fun hb52 => ?_) (fun hb52 => ?_)
    · exfalso
      replace hb52 : f < 0 := (nI_ltI (a := f) (b := 0) (by omega) (by omega)).mp hb52
      omega
    replace hb52 : ¬ (f < 0) := mt (nI_ltI (a := f) (b := 0) (by omega) (by omega)).mpr hb52
    refine xw_aload_n (pc := 55) dX6_rival_55 3 rfl ?_
    refine xw_iload (pc := 56) dX6_rival_56 0 rfl ?_
    refine xw_iconst (v := nI 5) (pc := 58) dX6_rival_58 rfl ?_
    refine xw_callV (pc := 59) (xr_V (as := [_, _]) ok_X6_of rfl (by decide) q2396 q2398 qs53 (by rw [xtag_with, hM.1]; rfl) (by rw [xtag_with, hM.1]; rfl) dX6_rival_59 rfl rfl (Nat.le_of_ble_eq_true rfl)) (SP_X6_of hM (r) (5) (by omega)) ?_
    refine xw_if_ge (pc := 62) 114 dX6_rival_62 rfl (fun hb62 => ?_) (fun hb62 => ?_)
    · refine xw_iconst (v := nI 0) (pc := 114) dX6_rival_114 rfl ?_
      refine xw_istore (l' := [(8, _), (7, _), (6, _), (5, _), (0, _), (1, _), (2, _), (3, _), (4, _)]) (pc := 115) dX6_rival_115 (by decide) rfl ?_
      refine xw_iload (pc := 117) dX6_rival_117 0 rfl ?_
      refine xw_if_eq (pc := 119) 132 dX6_rival_119 rfl (fun _ => ?_) (fun hb => absurd hb (by decide))
      refine xw_iload (pc := 132) dX6_rival_132 2 rfl ?_
      refine xw_iload (pc := 134) dX6_rival_134 0 rfl ?_
      refine xw_if_eq (pc := 136) 143 dX6_rival_136 rfl (fun _ => ?_) (fun hb => absurd hb (by decide))
      refine xw_iconst (v := nI 0) (pc := 143) dX6_rival_143 rfl ?_
      refine xn_iadd (pc := 144) dX6_rival_144 ?_
      refine xw_istore (l' := [(6, _), (8, _), (7, _), (5, _), (0, _), (1, _), (2, _), (3, _), (4, _)]) (pc := 145) dX6_rival_145 (by decide) rfl ?_
      refine xw_iinc (v := nI (r + 1)) (l' := [(7, _), (6, _), (8, _), (5, _), (0, _), (1, _), (2, _), (3, _), (4, _)]) (pc := 147) dX6_rival_147 2 rfl (nI_add _ 1) (by decide) rfl ?_
      refine xw_goto (pc := 150) 39 dX6_rival_150 rfl ?_
      refine xw_pick (pc := 39) (l' := [(7, _), (6, _), (5, _), (0, _), (1, _), (2, _), (3, _), (4, _)]) [0, 1, 3, 4, 5, 6, 7, 8] rfl ?_
      first
        | (have e : isRv (S 1) H f r = true := by
             have hm := Int32.not_le.mp hb62
             simp_all [isRv, isMa]
           refine ih (r + 1) (cn + 1) (by omega) (by omega) (by rw [cntB_t e]; omega) (fun r' h => hq1 r' ?_) (fun h => hq2 ?_)
           · rw [rvK, if_pos e, if_neg hb126]; exact h
           · rw [rvK, if_pos e, if_neg hb126]; exact h)
        | (have e : isRv (S 1) H f r = false := by
             first
               | (simp [isRv, isMa, Int32.not_lt.mpr hb62]; done)
               | (simp_all [isRv]; done)
               | (subst hb79; simp [isRv]; done)
           refine ih (r + 1) cn (by omega) (by omega) (by rw [cntB_f e]; omega) (fun r' h => hq1 r' ?_) (fun h => hq2 ?_)
           · rw [rvK, if_neg (by rw [e]; decide)]; exact h
           · rw [rvK, if_neg (by rw [e]; decide)]; exact h)
    · refine xw_aload_n (pc := 65) dX6_rival_65 3 rfl ?_
      refine xm_get (p := 7) (pc := 66) hM fd_X6_29 dX6_rival_66 rfl ?_
      refine xw_iload (pc := 69) dX6_rival_69 0 rfl ?_
      refine xm_zaldB (b := H r) (pc := 71) hM dX6_rival_71 rfl (by omega) (by exact hH r hrr) ?_
      refine xw_if_eq (pc := 72) 114 dX6_rival_72 rfl (fun hb72 => ?_) (fun hb72 => ?_)
      · replace hb72 := bI_0.mp hb72
        refine xw_iconst (v := nI 0) (pc := 114) dX6_rival_114 rfl ?_
        refine xw_istore (l' := [(8, _), (7, _), (6, _), (5, _), (0, _), (1, _), (2, _), (3, _), (4, _)]) (pc := 115) dX6_rival_115 (by decide) rfl ?_
        refine xw_iload (pc := 117) dX6_rival_117 0 rfl ?_
        refine xw_if_eq (pc := 119) 132 dX6_rival_119 rfl (fun _ => ?_) (fun hb => absurd hb (by decide))
        refine xw_iload (pc := 132) dX6_rival_132 2 rfl ?_
        refine xw_iload (pc := 134) dX6_rival_134 0 rfl ?_
        refine xw_if_eq (pc := 136) 143 dX6_rival_136 rfl (fun _ => ?_) (fun hb => absurd hb (by decide))
        refine xw_iconst (v := nI 0) (pc := 143) dX6_rival_143 rfl ?_
        refine xn_iadd (pc := 144) dX6_rival_144 ?_
        refine xw_istore (l' := [(6, _), (8, _), (7, _), (5, _), (0, _), (1, _), (2, _), (3, _), (4, _)]) (pc := 145) dX6_rival_145 (by decide) rfl ?_
        refine xw_iinc (v := nI (r + 1)) (l' := [(7, _), (6, _), (8, _), (5, _), (0, _), (1, _), (2, _), (3, _), (4, _)]) (pc := 147) dX6_rival_147 2 rfl (nI_add _ 1) (by decide) rfl ?_
        refine xw_goto (pc := 150) 39 dX6_rival_150 rfl ?_
        refine xw_pick (pc := 39) (l' := [(7, _), (6, _), (5, _), (0, _), (1, _), (2, _), (3, _), (4, _)]) [0, 1, 3, 4, 5, 6, 7, 8] rfl ?_
        first
          | (have e : isRv (S 1) H f r = true := by
               have hm := Int32.not_le.mp hb62
               simp_all [isRv, isMa]
             refine ih (r + 1) (cn + 1) (by omega) (by omega) (by rw [cntB_t e]; omega) (fun r' h => hq1 r' ?_) (fun h => hq2 ?_)
             · rw [rvK, if_pos e, if_neg hb126]; exact h
             · rw [rvK, if_pos e, if_neg hb126]; exact h)
          | (have e : isRv (S 1) H f r = false := by
               first
                 | (simp [isRv, isMa, Int32.not_lt.mpr hb62]; done)
                 | (simp_all [isRv]; done)
                 | (subst hb79; simp [isRv]; done)
             refine ih (r + 1) cn (by omega) (by omega) (by rw [cntB_f e]; omega) (fun r' h => hq1 r' ?_) (fun h => hq2 ?_)
             · rw [rvK, if_neg (by rw [e]; decide)]; exact h
             · rw [rvK, if_neg (by rw [e]; decide)]; exact h)
      · replace hb72 := bI_n0.mp hb72
        refine xw_iload (pc := 75) dX6_rival_75 0 rfl ?_
        refine xw_iload (pc := 77) dX6_rival_77 2 rfl ?_
        refine xw_icmp_eq (pc := 79) 114 dX6_rival_79 rfl (fun hb79 => ?_) (fun hb79 => ?_)
        · replace hb79 : r = f := (nI_eq (a := r) (b := f) (by omega) (by omega)).mp hb79
          refine xw_iconst (v := nI 0) (pc := 114) dX6_rival_114 rfl ?_
          refine xw_istore (l' := [(8, _), (7, _), (6, _), (5, _), (0, _), (1, _), (2, _), (3, _), (4, _)]) (pc := 115) dX6_rival_115 (by decide) rfl ?_
          refine xw_iload (pc := 117) dX6_rival_117 0 rfl ?_
          refine xw_if_eq (pc := 119) 132 dX6_rival_119 rfl (fun _ => ?_) (fun hb => absurd hb (by decide))
          refine xw_iload (pc := 132) dX6_rival_132 2 rfl ?_
          refine xw_iload (pc := 134) dX6_rival_134 0 rfl ?_
          refine xw_if_eq (pc := 136) 143 dX6_rival_136 rfl (fun _ => ?_) (fun hb => absurd hb (by decide))
          refine xw_iconst (v := nI 0) (pc := 143) dX6_rival_143 rfl ?_
          refine xn_iadd (pc := 144) dX6_rival_144 ?_
          refine xw_istore (l' := [(6, _), (8, _), (7, _), (5, _), (0, _), (1, _), (2, _), (3, _), (4, _)]) (pc := 145) dX6_rival_145 (by decide) rfl ?_
          refine xw_iinc (v := nI (r + 1)) (l' := [(7, _), (6, _), (8, _), (5, _), (0, _), (1, _), (2, _), (3, _), (4, _)]) (pc := 147) dX6_rival_147 2 rfl (nI_add _ 1) (by decide) rfl ?_
          refine xw_goto (pc := 150) 39 dX6_rival_150 rfl ?_
          refine xw_pick (pc := 39) (l' := [(7, _), (6, _), (5, _), (0, _), (1, _), (2, _), (3, _), (4, _)]) [0, 1, 3, 4, 5, 6, 7, 8] rfl ?_
          first
            | (have e : isRv (S 1) H f r = true := by
                 have hm := Int32.not_le.mp hb62
                 simp_all [isRv, isMa]
               refine ih (r + 1) (cn + 1) (by omega) (by omega) (by rw [cntB_t e]; omega) (fun r' h => hq1 r' ?_) (fun h => hq2 ?_)
               · rw [rvK, if_pos e, if_neg hb126]; exact h
               · rw [rvK, if_pos e, if_neg hb126]; exact h)
            | (have e : isRv (S 1) H f r = false := by
                 first
                   | (simp [isRv, isMa, Int32.not_lt.mpr hb62]; done)
                   | (simp_all [isRv]; done)
                   | (subst hb79; simp [isRv]; done)
               refine ih (r + 1) cn (by omega) (by omega) (by rw [cntB_f e]; omega) (fun r' h => hq1 r' ?_) (fun h => hq2 ?_)
               · rw [rvK, if_neg (by rw [e]; decide)]; exact h
               · rw [rvK, if_neg (by rw [e]; decide)]; exact h)
        · replace hb79 : ¬ (r = f) := mt (nI_eq (a := r) (b := f) (by omega) (by omega)).mpr hb79
          refine xw_aload_n (pc := 82) dX6_rival_82 3 rfl ?_
          refine xw_iload (pc := 83) dX6_rival_83 0 rfl ?_
          refine xw_iconst (v := nI 0) (pc := 85) dX6_rival_85 rfl ?_
          refine xw_callV (pc := 86) (xr_V (as := [_, _]) ok_X6_of rfl (by decide) q2396 q2398 qs53 (by rw [xtag_with, hM.1]; rfl) (by rw [xtag_with, hM.1]; rfl) dX6_rival_86 rfl rfl (Nat.le_of_ble_eq_true rfl)) (SP_X6_of hM (r) (0) (by omega)) ?_
          refine xw_aload_n (pc := 89) dX6_rival_89 3 rfl ?_
          refine xw_iload (pc := 90) dX6_rival_90 2 rfl ?_
          refine xw_iconst (v := nI 0) (pc := 92) dX6_rival_92 rfl ?_
          refine xw_callV (pc := 93) (xr_V (as := [_, _]) ok_X6_of rfl (by decide) q2396 q2398 qs53 (by rw [xtag_with, hM.1]; rfl) (by rw [xtag_with, hM.1]; rfl) dX6_rival_93 rfl rfl (Nat.le_of_ble_eq_true rfl)) (SP_X6_of hM (f) (0) (by omega)) ?_
          refine xw_icmp_eq (pc := 96) 114 dX6_rival_96 rfl (fun hb96 => ?_) (fun hb96 => ?_)
          · refine xw_iconst (v := nI 0) (pc := 114) dX6_rival_114 rfl ?_
            refine xw_istore (l' := [(8, _), (7, _), (6, _), (5, _), (0, _), (1, _), (2, _), (3, _), (4, _)]) (pc := 115) dX6_rival_115 (by decide) rfl ?_
            refine xw_iload (pc := 117) dX6_rival_117 0 rfl ?_
            refine xw_if_eq (pc := 119) 132 dX6_rival_119 rfl (fun _ => ?_) (fun hb => absurd hb (by decide))
            refine xw_iload (pc := 132) dX6_rival_132 2 rfl ?_
            refine xw_iload (pc := 134) dX6_rival_134 0 rfl ?_
            refine xw_if_eq (pc := 136) 143 dX6_rival_136 rfl (fun _ => ?_) (fun hb => absurd hb (by decide))
            refine xw_iconst (v := nI 0) (pc := 143) dX6_rival_143 rfl ?_
            refine xn_iadd (pc := 144) dX6_rival_144 ?_
            refine xw_istore (l' := [(6, _), (8, _), (7, _), (5, _), (0, _), (1, _), (2, _), (3, _), (4, _)]) (pc := 145) dX6_rival_145 (by decide) rfl ?_
            refine xw_iinc (v := nI (r + 1)) (l' := [(7, _), (6, _), (8, _), (5, _), (0, _), (1, _), (2, _), (3, _), (4, _)]) (pc := 147) dX6_rival_147 2 rfl (nI_add _ 1) (by decide) rfl ?_
            refine xw_goto (pc := 150) 39 dX6_rival_150 rfl ?_
            refine xw_pick (pc := 39) (l' := [(7, _), (6, _), (5, _), (0, _), (1, _), (2, _), (3, _), (4, _)]) [0, 1, 3, 4, 5, 6, 7, 8] rfl ?_
            first
              | (have e : isRv (S 1) H f r = true := by
                   have hm := Int32.not_le.mp hb62
                   simp_all [isRv, isMa]
                 refine ih (r + 1) (cn + 1) (by omega) (by omega) (by rw [cntB_t e]; omega) (fun r' h => hq1 r' ?_) (fun h => hq2 ?_)
                 · rw [rvK, if_pos e, if_neg hb126]; exact h
                 · rw [rvK, if_pos e, if_neg hb126]; exact h)
              | (have e : isRv (S 1) H f r = false := by
                   first
                     | (simp [isRv, isMa, Int32.not_lt.mpr hb62]; done)
                     | (simp_all [isRv]; done)
                     | (subst hb79; simp [isRv]; done)
                 refine ih (r + 1) cn (by omega) (by omega) (by rw [cntB_f e]; omega) (fun r' h => hq1 r' ?_) (fun h => hq2 ?_)
                 · rw [rvK, if_neg (by rw [e]; decide)]; exact h
                 · rw [rvK, if_neg (by rw [e]; decide)]; exact h)
          · refine xw_aload_n (pc := 99) dX6_rival_99 3 rfl ?_
            refine xw_iload (pc := 100) dX6_rival_100 0 rfl ?_
            refine xw_iload (pc := 102) dX6_rival_102 2 rfl ?_
            refine xw_callV (pc := 104) (xr_V (as := [_, _]) ok_X6_above rfl (by decide) q2540 q2542 qs72 (by rw [xtag_with, hM.1]; rfl) (by rw [xtag_with, hM.1]; rfl) dX6_rival_104 rfl rfl (Nat.le_of_ble_eq_true rfl)) (SP_X6_above hM n rr hn hr hW hWr r f hrr hf) ?_
            refine xw_if_ne (pc := 107) 114 dX6_rival_107 rfl (fun hb107 => ?_) (fun hb107 => ?_)
            · refine xw_iconst (v := nI 0) (pc := 114) dX6_rival_114 rfl ?_
              refine xw_istore (l' := [(8, _), (7, _), (6, _), (5, _), (0, _), (1, _), (2, _), (3, _), (4, _)]) (pc := 115) dX6_rival_115 (by decide) rfl ?_
              refine xw_iload (pc := 117) dX6_rival_117 0 rfl ?_
              refine xw_if_eq (pc := 119) 132 dX6_rival_119 rfl (fun _ => ?_) (fun hb => absurd hb (by decide))
              refine xw_iload (pc := 132) dX6_rival_132 2 rfl ?_
              refine xw_iload (pc := 134) dX6_rival_134 0 rfl ?_
              refine xw_if_eq (pc := 136) 143 dX6_rival_136 rfl (fun _ => ?_) (fun hb => absurd hb (by decide))
              refine xw_iconst (v := nI 0) (pc := 143) dX6_rival_143 rfl ?_
              refine xn_iadd (pc := 144) dX6_rival_144 ?_
              refine xw_istore (l' := [(6, _), (8, _), (7, _), (5, _), (0, _), (1, _), (2, _), (3, _), (4, _)]) (pc := 145) dX6_rival_145 (by decide) rfl ?_
              refine xw_iinc (v := nI (r + 1)) (l' := [(7, _), (6, _), (8, _), (5, _), (0, _), (1, _), (2, _), (3, _), (4, _)]) (pc := 147) dX6_rival_147 2 rfl (nI_add _ 1) (by decide) rfl ?_
              refine xw_goto (pc := 150) 39 dX6_rival_150 rfl ?_
              refine xw_pick (pc := 39) (l' := [(7, _), (6, _), (5, _), (0, _), (1, _), (2, _), (3, _), (4, _)]) [0, 1, 3, 4, 5, 6, 7, 8] rfl ?_
              first
                | (have e : isRv (S 1) H f r = true := by
                     have hm := Int32.not_le.mp hb62
                     simp_all [isRv, isMa]
                   refine ih (r + 1) (cn + 1) (by omega) (by omega) (by rw [cntB_t e]; omega) (fun r' h => hq1 r' ?_) (fun h => hq2 ?_)
                   · rw [rvK, if_pos e, if_neg hb126]; exact h
                   · rw [rvK, if_pos e, if_neg hb126]; exact h)
                | (have e : isRv (S 1) H f r = false := by
                     first
                       | (simp [isRv, isMa, Int32.not_lt.mpr hb62]; done)
                       | (simp_all [isRv]; done)
                       | (subst hb79; simp [isRv]; done)
                   refine ih (r + 1) cn (by omega) (by omega) (by rw [cntB_f e]; omega) (fun r' h => hq1 r' ?_) (fun h => hq2 ?_)
                   · rw [rvK, if_neg (by rw [e]; decide)]; exact h
                   · rw [rvK, if_neg (by rw [e]; decide)]; exact h)
            · refine xw_iconst (v := nI 1) (pc := 110) dX6_rival_110 rfl ?_
              refine xw_goto (pc := 111) 115 dX6_rival_111 rfl ?_
              refine xw_istore (l' := [(8, _), (7, _), (6, _), (5, _), (0, _), (1, _), (2, _), (3, _), (4, _)]) (pc := 115) dX6_rival_115 (by decide) rfl ?_
              refine xw_iload (pc := 117) dX6_rival_117 0 rfl ?_
              refine xw_if_eq (pc := 119) 132 dX6_rival_119 rfl (fun hb => absurd hb (by decide)) (fun _ => ?_)
              refine xw_iload (pc := 122) dX6_rival_122 2 rfl ?_
              refine xw_iload (pc := 124) dX6_rival_124 8 rfl ?_
              refine xw_icmp_ne (pc := 126) 132 dX6_rival_126 rfl (fun hb126 => ?_) (fun hb126 => ?_)
              · refine xw_iload (pc := 132) dX6_rival_132 2 rfl ?_
                refine xw_iload (pc := 134) dX6_rival_134 0 rfl ?_
                refine xw_if_eq (pc := 136) 143 dX6_rival_136 rfl (fun hb => absurd hb (by decide)) (fun _ => ?_)
                refine xw_iconst (v := nI 1) (pc := 139) dX6_rival_139 rfl ?_
                refine xw_goto (pc := 140) 144 dX6_rival_140 rfl ?_
                refine xn_iadd (pc := 144) dX6_rival_144 ?_
                refine xw_istore (l' := [(6, _), (8, _), (7, _), (5, _), (0, _), (1, _), (2, _), (3, _), (4, _)]) (pc := 145) dX6_rival_145 (by decide) rfl ?_
                refine xw_iinc (v := nI (r + 1)) (l' := [(7, _), (6, _), (8, _), (5, _), (0, _), (1, _), (2, _), (3, _), (4, _)]) (pc := 147) dX6_rival_147 2 rfl (nI_add _ 1) (by decide) rfl ?_
                refine xw_goto (pc := 150) 39 dX6_rival_150 rfl ?_
                refine xw_pick (pc := 39) (l' := [(7, _), (6, _), (5, _), (0, _), (1, _), (2, _), (3, _), (4, _)]) [0, 1, 3, 4, 5, 6, 7, 8] rfl ?_
                first
                  | (have e : isRv (S 1) H f r = true := by
                       have hm := Int32.not_le.mp hb62
                       simp_all [isRv, isMa]
                     refine ih (r + 1) (cn + 1) (by omega) (by omega) (by rw [cntB_t e]; omega) (fun r' h => hq1 r' ?_) (fun h => hq2 ?_)
                     · rw [rvK, if_pos e, if_neg hb126]; exact h
                     · rw [rvK, if_pos e, if_neg hb126]; exact h)
                  | (have e : isRv (S 1) H f r = false := by
                       first
                         | (simp [isRv, isMa, Int32.not_lt.mpr hb62]; done)
                         | (simp_all [isRv]; done)
                         | (subst hb79; simp [isRv]; done)
                     refine ih (r + 1) cn (by omega) (by omega) (by rw [cntB_f e]; omega) (fun r' h => hq1 r' ?_) (fun h => hq2 ?_)
                     · rw [rvK, if_neg (by rw [e]; decide)]; exact h
                     · rw [rvK, if_neg (by rw [e]; decide)]; exact h)
              · refine xw_iload (pc := 129) dX6_rival_129 1 rfl ?_
                refine xw_iret (pc := 131) .int dX6_rival_131 rfl ?_ 
                have e : isRv (S 1) H f r = true := by
                  have hm := Int32.not_le.mp hb62
                  simp_all [isRv, isMa]
                exact hq1 r (by rw [rvK, if_pos e, if_pos hb126])
theorem SP_X6_rival_W {d : Nat} {g : xG} {m : Nat} {S : xMS} (hM : xMod g m) (a b c e : Int32) (w : Nat) (hw0 : 0 < w) (hw2 : w ≤ 2) (hw : wrongC S a b c = w) : XM M_X6_rival (d + 5) [.ref m, .int a, .int b, .int c, .int e] (xWith g m S) (xOne (some (.int (nI 0))) (xWith g m (mset S 0 6 (nI w)))) := by
  refine xm_of (by decide +kernel) (Nat.le_of_ble_eq_true rfl) ?_
  show XW _ _ 0 [(0, _), (1, _), (2, _), (3, _), (4, _)] [] _ _
  refine xw_aload_n (pc := 0) dX6_rival_0 0 rfl ?_
  refine xw_aload_n (pc := 1) dX6_rival_1 0 rfl ?_
  refine xw_iload_n (pc := 2) dX6_rival_2 1 rfl ?_
  refine xw_iload_n (pc := 3) dX6_rival_3 2 rfl ?_
  refine xw_iload_n (pc := 4) dX6_rival_4 3 rfl ?_
  refine xw_callV (pc := 5) (xr_V (as := [_, _, _]) ok_X6_wrongCase rfl (by decide) q2500 q2502 qs67 (by rw [xtag_with, hM.1]; rfl) (by rw [xtag_with, hM.1]; rfl) dX6_rival_5 rfl rfl (Nat.le_of_ble_eq_true rfl)) (SP_X6_wrongCaseW hM w hw) ?_
  refine xm_putI (pc := 8) hM fd_X6_62 (xfin_of (by decide) (by decide +kernel)) dX6_rival_8 ?_
  refine xw_aload_n (pc := 11) dX6_rival_11 0 rfl ?_
  refine xm_getN (k := w) (pc := 12) hM fd_X6_62 dX6_rival_12 (by first | rfl | (simp [mset, mcpy]; done)) ?_
  refine xw_if_le (pc := 15) 20 dX6_rival_15 rfl (fun hb15 => ?_) (fun hb15 => ?_)
  · exfalso
    replace hb15 : w ≤ 0 := (nI_leI (a := w) (b := 0) (by omega) (by omega)).mp hb15
    omega
  replace hb15 : ¬ (w ≤ 0) := mt (nI_leI (a := w) (b := 0) (by omega) (by omega)).mpr hb15
  refine xw_iconst (v := nI 0) (pc := 18) dX6_rival_18 rfl ?_
  refine xw_iret (pc := 19) .int dX6_rival_19 rfl ?_ 
  exact ⟨rfl, rfl⟩
def rivP (s : Nat → Int32) (H : Nat → Bool) (rr : Nat) : Nat → Bool := match prvK s H rr with
  | none => fun _ => false
  | some f => isRv s H f
theorem rvK_no {x : Int32} : ∀ (j r c : Nat), rvK (fun _ => false) x j r c = none := by
  intro j
  induction j with
  | zero => intro r c; rfl
  | succ j ih => intro r c; rw [rvK, if_neg (by decide)]; exact ih _ _
theorem cntB_no : ∀ k : Nat, cntB (fun _ => false) k = 0 := by
  intro k
  induction k with
  | zero => rfl
  | succ k ih => rw [cntB, ih]; rfl
theorem lpn_X6_rival {d : Nat} {g : xG} {m : Nat} {S : xMS} (hM : xMod g m) {Q : Option Value ⊕ Nat → xG → Prop} {a b c x : Int32} (rr : Nat) (hr : rr ≤ 16) (h1 : S 1 1 = nI rr) (k : XW M_X6_rival (d + 4) 153 [(7, .int (nI 0)), (6, .int (nI 0)), (5, .int (-1)), (0, .ref m), (1, .int a), (2, .int b), (3, .int c), (4, .int x)] [] (xWith g m S) Q) : XW M_X6_rival (d + 4) 39 [(7, .int (nI 0)), (6, .int (nI 0)), (5, .int (-1)), (0, .ref m), (1, .int a), (2, .int b), (3, .int c), (4, .int x)] [] (xWith g m S) Q := by
  refine xw_iload (pc := 39) dX6_rival_39 0 rfl ?_
  refine xw_aload_n (pc := 41) dX6_rival_41 3 rfl ?_
  refine xm_get (p := 1) (pc := 42) hM fd_X6_9 dX6_rival_42 rfl ?_
  refine xw_iconst (v := nI 1) (pc := 45) dX6_rival_45 rfl ?_
  refine xm_ialdN (v := rr) (pc := 46) hM dX6_rival_46 rfl (by omega) (by exact h1) ?_
  refine xw_icmp_ge (pc := 47) 153 dX6_rival_47 rfl (fun hb47 => ?_) (fun hb47 => ?_)
  · replace hb47 : rr ≤ 0 := (nI_leI (a := rr) (b := 0) (by omega) (by omega)).mp hb47
    exact k
  · replace hb47 : ¬ (rr ≤ 0) := mt (nI_leI (a := rr) (b := 0) (by omega) (by omega)).mpr hb47
    refine xw_iload (pc := 50) dX6_rival_50 2 rfl ?_
    refine xw_if_lt (pc := 52) 153 dX6_rival_52 rfl (fun hb52 => ?_) (fun hb52 => ?_)
    rotate_left
    · exfalso
      exact hb52 (by decide)
    exact k
theorem SP_X6_rival {d : Nat} {g : xG} {m : Nat} {S : xMS} (hM : xMod g m) (n rr k : Nat) (hn : n ≤ 10) (h0 : S 1 0 = nI n) (hr : rr ≤ 16) (hk : k < n) (h1 : S 1 1 = nI rr) (hW : WFo (S 1) n) (hWr : WFr (S 1) n rr) (day feats : Int32) (hcs : isCs day feats = true) (C H : Nat → Bool) (hC : C = cov (S 1) (S 0 14) k day feats) (hH : H = hld (isPa (S 1)) rr C) (x : Int32) : XM M_X6_rival (d + 5) [.ref m, .int (nI k), .int day, .int feats, .int x] (xWith g m S) (xOne (some (.int (opRival (lookP (mset S 0 6 (nI 0)) C H 0 rr) (rivP (S 1) H rr) rr x).1)) (xWith g m (opRival (lookP (mset S 0 6 (nI 0)) C H 0 rr) (rivP (S 1) H rr) rr x).2)) := by
  have e1 : (mset S 0 6 (nI 0)) 1 = S 1 := mset_q (by decide)
  have e2 : (lookP (mset S 0 6 (nI 0)) C H 0 rr) 1 = S 1 := (lookP_q (by decide) (by decide)).trans e1
  refine xm_of (by decide +kernel) (Nat.le_of_ble_eq_true rfl) ?_
  show XW _ _ 0 [(0, _), (1, _), (2, _), (3, _), (4, _)] [] _ _
  refine xw_aload_n (pc := 0) dX6_rival_0 0 rfl ?_
  refine xw_aload_n (pc := 1) dX6_rival_1 0 rfl ?_
  refine xw_iload_n (pc := 2) dX6_rival_2 1 rfl ?_
  refine xw_iload_n (pc := 3) dX6_rival_3 2 rfl ?_
  refine xw_iload_n (pc := 4) dX6_rival_4 3 rfl ?_
  refine xw_callV (pc := 5) (xr_V (as := [_, _, _]) ok_X6_wrongCase rfl (by decide) q2500 q2502 qs67 (by rw [xtag_with, hM.1]; rfl) (by rw [xtag_with, hM.1]; rfl) dX6_rival_5 rfl rfl (Nat.le_of_ble_eq_true rfl)) (SP_X6_wrongCaseW hM 0 (wrongC_0 hn h0 hk hcs)) ?_
  refine xm_putI (pc := 8) hM fd_X6_62 (xfin_of (by decide) (by decide +kernel)) dX6_rival_8 ?_
  refine xw_aload_n (pc := 11) dX6_rival_11 0 rfl ?_
  refine xm_getN (k := 0) (pc := 12) hM fd_X6_62 dX6_rival_12 (by first | rfl | (simp [mset, mcpy]; done)) ?_
  refine xw_if_le (pc := 15) 20 dX6_rival_15 rfl (fun _ => ?_) (fun hb => absurd hb (by decide))
  refine xw_aload_n (pc := 20) dX6_rival_20 0 rfl ?_
  refine xw_iload_n (pc := 21) dX6_rival_21 1 rfl ?_
  refine xw_iload_n (pc := 22) dX6_rival_22 2 rfl ?_
  refine xw_iload_n (pc := 23) dX6_rival_23 3 rfl ?_
  refine xw_callU (pc := 24) (xr_V (as := [_, _, _]) ok_X6_look rfl (by decide) q2519 q2521 qs69 (by rw [xtag_with, hM.1]; rfl) (by rw [xtag_with, hM.1]; rfl) dX6_rival_24 rfl rfl (Nat.le_of_ble_eq_true rfl)) (SP_X6_look hM n rr k hn hr hk (by rw [e1]; exact h1) (by rw [e1]; exact hW) (by rw [e1]; exact hWr) day feats C H (by rw [e1]; exact hC) (by rw [e1]; exact hH)) ?_
  refine xw_aload_n (pc := 27) dX6_rival_27 0 rfl ?_
  refine xw_callV (pc := 28) (xr_V (as := []) ok_X6_prevailing rfl (by decide) q2536 q2538 qs71 (by rw [xtag_with, hM.1]; rfl) (by rw [xtag_with, hM.1]; rfl) dX6_rival_28 rfl rfl (Nat.le_of_ble_eq_true rfl)) (SP_X6_prevailing hM n rr hn hr (by rw [e2]; exact h1) (by rw [e2]; exact hW) (by rw [e2]; exact hWr) H (fun r hr9 => lookP_7 (Nat.zero_le r) hr9)) ?_
  refine xw_istore (l' := [(5, _), (0, _), (1, _), (2, _), (3, _), (4, _)]) (pc := 31) dX6_rival_31 (by decide) rfl ?_
  refine xw_iconst (v := nI 0) (pc := 33) dX6_rival_33 rfl ?_
  refine xw_istore (l' := [(6, _), (5, _), (0, _), (1, _), (2, _), (3, _), (4, _)]) (pc := 34) dX6_rival_34 (by decide) rfl ?_
  refine xw_iconst (v := nI 0) (pc := 36) dX6_rival_36 rfl ?_
  refine xw_istore (l' := [(7, _), (6, _), (5, _), (0, _), (1, _), (2, _), (3, _), (4, _)]) (pc := 37) dX6_rival_37 (by decide) rfl ?_
  rw [e2]
  cases hp : prvK (S 1) H rr with
  | none =>
    refine lpn_X6_rival (d := d + 1) (S := lookP (mset S 0 6 (nI 0)) C H 0 rr) hM rr hr (by rw [e2]; exact h1) ?_
    rw [show rivP (S 1) H rr = fun _ => false from by unfold rivP; rw [hp]]
    unfold opRival
    rw [rvK_no, cntB_no]
    exact lpe_X6_rival (d := d + 1) hM (by decide)
  | some f =>
    have hf := prvK_lt hp
    rw [show rivP (S 1) H rr = isRv (S 1) H f from by unfold rivP; rw [hp]]
    have h := lp_X6_rival (d := d + 1) (S := lookP (mset S 0 6 (nI 0)) C H 0 rr) (a := nI k) (b := day) (c := feats) (x := x) hM n rr hn hr (by rw [e2]; exact h1) (by rw [e2]; exact hW) (by rw [e2]; exact hWr) H (fun r hr9 => lookP_7 (Nat.zero_le r) hr9) f hf (Q := xOne (some (.int (opRival (lookP (mset S 0 6 (nI 0)) C H 0 rr) (isRv (S 1) H f) rr x).1)) (xWith g m (opRival (lookP (mset S 0 6 (nI 0)) C H 0 rr) (isRv (S 1) H f) rr x).2)) rr 0 0 (Nat.zero_add _) (Nat.le_refl _) rfl
    rw [e2] at h
    refine h (fun r' hr' => ?_) (fun hr' r' => ?_)
    · unfold opRival
      rw [hr']
      exact ⟨rfl, rfl⟩
    · unfold opRival
      rw [hr']
      exact lpe_X6_rival (d := d + 1) hM (by have := cntB_le (isRv (S 1) H f) rr; omega)
/-- the outcome on a day -/
def oc (s : Nat → Int32) (wo : Int32) (rr k : Nat) (feats day : Int32) : Int32 := ocm s (hld (isPa s) rr (cov s wo k day feats)) rr k
/-- but for the looked-at rows -/
def lkEq (S T : xMS) : Prop := ∀ p, p ≠ 6 → p ≠ 7 → T p = S p
theorem lkEq_look {S T : xMS} {C H : Nat → Bool} {a b : Nat} (h : lkEq S T) : lkEq S (lookP T C H a b) := fun p h6 h7 => (lookP_q h6 h7).trans (h p h6 h7)
/-- an answer, and the state but for the looked-at rows -/
def xLk (g : xG) (m : Nat) (S : xMS) (v : Int32) (rs : Option Value ⊕ Nat) (g' : xG) : Prop := rs = .inl (some (.int v)) ∧ ∃ T, lkEq S T ∧ g' = xWith g m T
theorem SP_X6_oc {d : Nat} {g : xG} {m : Nat} {S : xMS} (hM : xMod g m) (n rr k : Nat) (hn : n ≤ 10) (hr : rr ≤ 16) (hk : k < n) (h1 : S 1 1 = nI rr) (hW : WFo (S 1) n) (hWr : WFr (S 1) n rr) (h4 : ¬ S 1 4 < 0) (T : xMS) (hT : lkEq S T) (feats day : Int32) : XM M_X6_outcomeOf (d + 4) [.ref m, .int (nI k), .int day, .int feats] (xWith g m T) (xOne (some (.int (oc (S 1) (S 0 14) rr k feats day))) (xWith g m (lookP T (cov (S 1) (S 0 14) k day feats) (hld (isPa (S 1)) rr (cov (S 1) (S 0 14) k day feats)) 0 rr))) := by
  have e1 : T 1 = S 1 := hT 1 (by decide) (by decide)
  have e0 : T 0 = S 0 := hT 0 (by decide) (by decide)
  have h := SP_X6_outcomeOf (d := d) (S := T) hM n rr k hn hr hk (by rw [e1]; exact h1) (by rw [e1]; exact hW) (by rw [e1]; exact hWr) day feats (cov (S 1) (S 0 14) k day feats) (hld (isPa (S 1)) rr (cov (S 1) (S 0 14) k day feats)) (by rw [e1, e0]) (by rw [e1]) (by rw [e1]; exact h4)
  rw [e1] at h
  exact h
/-- the first day from a on with another outcome -/
def nxD (F : Int32 → Int32) (now : Int32) : Nat → Nat → Option Nat
  | 0, _ => none
  | j + 1, a => if F (nI a) = now then nxD F now j (a + 1) else some a
theorem lp_X6_nextChange {d : Nat} {g : xG} {m : Nat} {S : xMS} (hM : xMod g m) (n rr k : Nat) (hn : n ≤ 10) (hr : rr ≤ 16) (hk : k < n) (h1 : S 1 1 = nI rr) (hW : WFo (S 1) n) (hWr : WFr (S 1) n rr) (h4 : ¬ S 1 4 < 0) (feats now : Int32) {a : Int32} : ∀ (j dd : Nat), dd + j = 1000 → ∀ T, lkEq S T → XW M_X6_nextChange (d + 5) 34 [(5, .int (nI dd)), (4, .int now), (0, .ref m), (1, .int (nI k)), (2, .int a), (3, .int feats)] [] (xWith g m T) (fun rs g' => ∃ T, lkEq S T ∧ match nxD (oc (S 1) (S 0 14) rr k feats) now j dd with
    | some e => rs = .inl (some (.int (nI e))) ∧ g' = xWith g m T
    | none => rs = .inl (some (.int (nI 0))) ∧ g' = xWith g m (mset T 0 6 (nI 3))) := by
  intro j
  induction j with
  | zero =>
    intro dd hd T hT
    refine xw_iload (pc := 34) dX6_nextChange_34 0 rfl ?_
    refine xw_sipush (v := nI 999) (pc := 36) dX6_nextChange_36 (by decide +kernel) ?_
    refine xw_icmp_gt (pc := 39) 64 dX6_nextChange_39 rfl (fun hb39 => ?_) (fun hb39 => ?_)
    rotate_left
    · exfalso
      replace hb39 : ¬ (999 < dd) := mt (nI_ltI (a := 999) (b := dd) (by omega) (by omega)).mpr hb39
      omega
    replace hb39 : 999 < dd := (nI_ltI (a := 999) (b := dd) (by omega) (by omega)).mp hb39
    refine xw_aload_n (pc := 64) dX6_nextChange_64 2 rfl ?_
    refine xw_iconst (v := nI 3) (pc := 65) dX6_nextChange_65 rfl ?_
    refine xm_putI (pc := 66) hM fd_X6_62 (xfin_of (by decide) (by decide +kernel)) dX6_nextChange_66 ?_
    refine xw_iconst (v := nI 0) (pc := 69) dX6_nextChange_69 rfl ?_
    refine xw_iret (pc := 70) .int dX6_nextChange_70 rfl ?_ 
    exact ⟨T, hT, rfl, rfl⟩
  | succ j ih =>
    intro dd hd T hT
    refine xw_iload (pc := 34) dX6_nextChange_34 0 rfl ?_
    refine xw_sipush (v := nI 999) (pc := 36) dX6_nextChange_36 (by decide +kernel) ?_
    refine xw_icmp_gt (pc := 39) 64 dX6_nextChange_39 rfl (fun hb39 => ?_) (fun hb39 => ?_)
    · exfalso
      replace hb39 : 999 < dd := (nI_ltI (a := 999) (b := dd) (by omega) (by omega)).mp hb39
      omega
    replace hb39 : ¬ (999 < dd) := mt (nI_ltI (a := 999) (b := dd) (by omega) (by omega)).mpr hb39
    refine xw_aload_n (pc := 42) dX6_nextChange_42 2 rfl ?_
    refine xw_iload_n (pc := 43) dX6_nextChange_43 3 rfl ?_
    refine xw_iload (pc := 44) dX6_nextChange_44 0 rfl ?_
    refine xw_iload_n (pc := 46) dX6_nextChange_46 5 rfl ?_
    refine xw_callV (pc := 47) (xr_V (as := [_, _, _]) ok_X6_outcomeOf rfl (by decide) q2532 q2534 qs70 (by rw [xtag_with, hM.1]; rfl) (by rw [xtag_with, hM.1]; rfl) dX6_nextChange_47 rfl rfl (Nat.le_of_ble_eq_true rfl)) (SP_X6_oc hM n rr k hn hr hk h1 hW hWr h4 T hT feats _) ?_
    refine xw_iload (pc := 50) dX6_nextChange_50 1 rfl ?_
    refine xw_icmp_eq (pc := 52) 58 dX6_nextChange_52 rfl (fun hb52 => ?_) (fun hb52 => ?_)
    · refine xw_iinc (v := nI (dd + 1)) (l' := [(5, _), (4, _), (0, _), (1, _), (2, _), (3, _)]) (pc := 58) dX6_nextChange_58 0 rfl (nI_add _ 1) (by decide) rfl ?_
      refine xw_goto (pc := 61) 34 dX6_nextChange_61 rfl ?_
      rw [nxD, if_pos hb52]
      exact ih (dd + 1) (by omega) _ (lkEq_look hT)
    · refine xw_iload (pc := 55) dX6_nextChange_55 0 rfl ?_
      refine xw_iret (pc := 57) .int dX6_nextChange_57 rfl ?_ 
      refine ⟨lookP T (cov (S 1) (S 0 14) k (nI dd) feats) (hld (isPa (S 1)) rr (cov (S 1) (S 0 14) k (nI dd) feats)) 0 rr, lkEq_look hT, ?_⟩
      rw [nxD, if_neg hb52]
      exact ⟨rfl, rfl⟩
theorem SP_X6_nextChange_W {d : Nat} {g : xG} {m : Nat} {S : xMS} (hM : xMod g m) (a b c : Int32) (w : Nat) (hw0 : 0 < w) (hw2 : w ≤ 2) (hw : wrongC S a b c = w) : XM M_X6_nextChange (d + 5) [.ref m, .int a, .int b, .int c] (xWith g m S) (xOne (some (.int (nI 0))) (xWith g m (mset S 0 6 (nI w)))) := by
  refine xm_of (by decide +kernel) (Nat.le_of_ble_eq_true rfl) ?_
  show XW _ _ 0 [(0, _), (1, _), (2, _), (3, _)] [] _ _
  refine xw_aload_n (pc := 0) dX6_nextChange_0 0 rfl ?_
  refine xw_aload_n (pc := 1) dX6_nextChange_1 0 rfl ?_
  refine xw_iload_n (pc := 2) dX6_nextChange_2 1 rfl ?_
  refine xw_iload_n (pc := 3) dX6_nextChange_3 2 rfl ?_
  refine xw_iload_n (pc := 4) dX6_nextChange_4 3 rfl ?_
  refine xw_callV (pc := 5) (xr_V (as := [_, _, _]) ok_X6_wrongCase rfl (by decide) q2500 q2502 qs67 (by rw [xtag_with, hM.1]; rfl) (by rw [xtag_with, hM.1]; rfl) dX6_nextChange_5 rfl rfl (Nat.le_of_ble_eq_true rfl)) (SP_X6_wrongCaseW hM w hw) ?_
  refine xm_putI (pc := 8) hM fd_X6_62 (xfin_of (by decide) (by decide +kernel)) dX6_nextChange_8 ?_
  refine xw_aload_n (pc := 11) dX6_nextChange_11 0 rfl ?_
  refine xm_getN (k := w) (pc := 12) hM fd_X6_62 dX6_nextChange_12 (by first | rfl | (simp [mset, mcpy]; done)) ?_
  refine xw_if_le (pc := 15) 20 dX6_nextChange_15 rfl (fun hb15 => ?_) (fun hb15 => ?_)
  · exfalso
    replace hb15 : w ≤ 0 := (nI_leI (a := w) (b := 0) (by omega) (by omega)).mp hb15
    omega
  replace hb15 : ¬ (w ≤ 0) := mt (nI_leI (a := w) (b := 0) (by omega) (by omega)).mpr hb15
  refine xw_iconst (v := nI 0) (pc := 18) dX6_nextChange_18 rfl ?_
  refine xw_iret (pc := 19) .int dX6_nextChange_19 rfl ?_ 
  exact ⟨rfl, rfl⟩
theorem SP_X6_nextChange {d : Nat} {g : xG} {m : Nat} {S : xMS} (hM : xMod g m) (n rr k : Nat) (hn : n ≤ 10) (h0 : S 1 0 = nI n) (hr : rr ≤ 16) (hk : k < n) (h1 : S 1 1 = nI rr) (hW : WFo (S 1) n) (hWr : WFr (S 1) n rr) (day feats : Int32) (hcs : isCs day feats = true) (h4 : ¬ S 1 4 < 0) (dd : Nat) (hdd : dd ≤ 999) (hday : day = nI dd) : XM M_X6_nextChange (d + 6) [.ref m, .int (nI k), .int day, .int feats] (xWith g m S) (fun rs g' => ∃ T, lkEq (mset S 0 6 (nI 0)) T ∧ match nxD (oc (S 1) (S 0 14) rr k feats) (oc (S 1) (S 0 14) rr k feats day) (999 - dd) (dd + 1) with
    | some e => rs = .inl (some (.int (nI e))) ∧ g' = xWith g m T
    | none => rs = .inl (some (.int (nI 0))) ∧ g' = xWith g m (mset T 0 6 (nI 3))) := by
  subst hday
  have e1 : (mset S 0 6 (nI 0)) 1 = S 1 := mset_q (by decide)
  refine xm_of (by decide +kernel) (Nat.le_of_ble_eq_true rfl) ?_
  show XW _ _ 0 [(0, _), (1, _), (2, _), (3, _)] [] _ _
  refine xw_aload_n (pc := 0) dX6_nextChange_0 0 rfl ?_
  refine xw_aload_n (pc := 1) dX6_nextChange_1 0 rfl ?_
  refine xw_iload_n (pc := 2) dX6_nextChange_2 1 rfl ?_
  refine xw_iload_n (pc := 3) dX6_nextChange_3 2 rfl ?_
  refine xw_iload_n (pc := 4) dX6_nextChange_4 3 rfl ?_
  refine xw_callV (pc := 5) (xr_V (as := [_, _, _]) ok_X6_wrongCase rfl (by decide) q2500 q2502 qs67 (by rw [xtag_with, hM.1]; rfl) (by rw [xtag_with, hM.1]; rfl) dX6_nextChange_5 rfl rfl (Nat.le_of_ble_eq_true rfl)) (SP_X6_wrongCaseW hM 0 (wrongC_0 hn h0 hk hcs)) ?_
  refine xm_putI (pc := 8) hM fd_X6_62 (xfin_of (by decide) (by decide +kernel)) dX6_nextChange_8 ?_
  refine xw_aload_n (pc := 11) dX6_nextChange_11 0 rfl ?_
  refine xm_getN (k := 0) (pc := 12) hM fd_X6_62 dX6_nextChange_12 (by first | rfl | (simp [mset, mcpy]; done)) ?_
  refine xw_if_le (pc := 15) 20 dX6_nextChange_15 rfl (fun _ => ?_) (fun hb => absurd hb (by decide))
  refine xw_aload_n (pc := 20) dX6_nextChange_20 0 rfl ?_
  refine xw_iload_n (pc := 21) dX6_nextChange_21 1 rfl ?_
  refine xw_iload_n (pc := 22) dX6_nextChange_22 2 rfl ?_
  refine xw_iload_n (pc := 23) dX6_nextChange_23 3 rfl ?_
  refine xw_callV (pc := 24) (xr_V (as := [_, _, _]) ok_X6_outcomeOf rfl (by decide) q2532 q2534 qs70 (by rw [xtag_with, hM.1]; rfl) (by rw [xtag_with, hM.1]; rfl) dX6_nextChange_24 rfl rfl (Nat.le_of_ble_eq_true rfl)) (SP_X6_oc hM n rr k hn hr hk (by rw [e1]; exact h1) (by rw [e1]; exact hW) (by rw [e1]; exact hWr) (by rw [e1]; exact h4) (mset S 0 6 (nI 0)) (fun _ _ _ => rfl) feats _) ?_
  refine xw_istore (l' := [(4, _), (0, _), (1, _), (2, _), (3, _)]) (pc := 27) dX6_nextChange_27 (by decide) rfl ?_
  refine xw_iload_n (pc := 29) dX6_nextChange_29 3 rfl ?_
  refine xw_iconst (v := nI 1) (pc := 30) dX6_nextChange_30 rfl ?_
  refine xn_iadd (pc := 31) dX6_nextChange_31 ?_
  refine xw_istore (l' := [(5, _), (4, _), (0, _), (1, _), (2, _), (3, _)]) (pc := 32) dX6_nextChange_32 (by decide) rfl ?_
  have h := fun T hT => lp_X6_nextChange (d := d + 1) (S := mset S 0 6 (nI 0)) (a := nI dd) hM n rr k hn hr hk (by rw [e1]; exact h1) (by rw [e1]; exact hW) (by rw [e1]; exact hWr) (by rw [e1]; exact h4) feats (oc (mset S 0 6 (nI 0) 1) (mset S 0 6 (nI 0) 0 14) rr k feats (nI dd)) (999 - dd) (dd + 1) (by omega) T hT
  simp only [e1] at h ⊢
  exact h _ (lkEq_look (fun _ _ _ => rfl))
theorem xw_callL {M M' : xM} {d pc : Nat} {l : List (Nat × Value)} {rest st0 as : List Value} {g g0 : xG} {m : Nat} {S : xMS} {v : Int32} {Q : Option Value ⊕ Nat → xG → Prop} (hrun : xRun M M' d pc g st0 rest as) (hc : XM M' d as g (xLk g0 m S v)) (k : ∀ T, lkEq S T → XW M (d + 1) (pc + 3) l (.int v :: rest) (xWith g0 m T) Q) : XW M (d + 1) pc l st0 g Q :=
  xw_call hrun hc (fun rs g2 h _ => by
    obtain ⟨rfl, T, hT, rfl⟩ := h
    exact k T hT)
