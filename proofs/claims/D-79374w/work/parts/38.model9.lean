/-! MODEL 9: days, worked cases -/
set_option maxRecDepth 100000
theorem SP_X6_ocL {d : Nat} {g : xG} {m : Nat} {S : xMS} (hM : xMod g m) (n rr k : Nat) (hn : n ≤ 10) (hr : rr ≤ 16) (hk : k < n) (h1 : S 1 1 = nI rr) (hW : WFo (S 1) n) (hWr : WFr (S 1) n rr) (h4 : ¬ S 1 4 < 0) (T : xMS) (hT : lkEq S T) (feats day : Int32) : XM M_X6_outcomeOf (d + 4) [.ref m, .int (nI k), .int day, .int feats] (xWith g m T) (xLk g m S (oc (S 1) (S 0 14) rr k feats day)) :=
  (SP_X6_oc hM n rr k hn hr hk h1 hW hWr h4 T hT feats day).mono (fun rs g' h _ => ⟨h.1, _, lkEq_look hT, h.2⟩)
theorem lp_X6_days {d : Nat} {g : xG} {m : Nat} {S : xMS} (hM : xMod g m) (n rr k : Nat) (hn : n ≤ 10) (hr : rr ≤ 16) (hk : k < n) (h1 : S 1 1 = nI rr) (hW : WFo (S 1) n) (hWr : WFr (S 1) n rr) (h4 : ¬ S 1 4 < 0) (feats e : Int32) : ∀ (j dd : Nat), 1000 - dd < j → dd ≤ 1000 → ∀ T, lkEq S T → XW M_X6_days (d + 5) 51 [(5, .int (nI dd)), (4, .int (nI (cntB (fun z => decide (oc (S 1) (S 0 14) rr k feats (nI z) = e)) dd))), (0, .ref m), (1, .int e), (2, .int (nI k)), (3, .int feats)] [] (xWith g m T) (xLk g m S (nI (cntB (fun z => decide (oc (S 1) (S 0 14) rr k feats (nI z) = e)) 1000))) := by
  intro j
  induction j with
  | zero => intro k h; omega
  | succ j ih =>
  intro dd hj hd T hT
  have hcl := cntB_le (fun z => decide (oc (S 1) (S 0 14) rr k feats (nI z) = e)) dd
  refine xw_iload (pc := 51) dX6_days_51 0 rfl ?_
  refine xw_sipush (v := nI 999) (pc := 53) dX6_days_53 (by decide +kernel) ?_
  refine xw_icmp_gt (pc := 56) 87 dX6_days_56 rfl (fun hb56 => ?_) (fun hb56 => ?_)
  · replace hb56 : 999 < dd := (nI_ltI (a := 999) (b := dd) (by omega) (by omega)).mp hb56
    refine xw_iload (pc := 87) dX6_days_87 1 rfl ?_
    refine xw_iret (pc := 89) .int dX6_days_89 rfl ?_ 
    obtain rfl : dd = 1000 := by omega
    exact ⟨rfl, T, hT, rfl⟩
  · replace hb56 : ¬ (999 < dd) := mt (nI_ltI (a := 999) (b := dd) (by omega) (by omega)).mpr hb56
    refine xw_iload (pc := 59) dX6_days_59 1 rfl ?_
    refine xw_aload_n (pc := 61) dX6_days_61 2 rfl ?_
    refine xw_iload_n (pc := 62) dX6_days_62 4 rfl ?_
    refine xw_iload (pc := 63) dX6_days_63 0 rfl ?_
    refine xw_iload_n (pc := 65) dX6_days_65 5 rfl ?_
    refine xw_callL (pc := 66) (xr_V (as := [_, _, _]) ok_X6_outcomeOf rfl (by decide) q2532 q2534 qs70 (by rw [xtag_with, hM.1]; rfl) (by rw [xtag_with, hM.1]; rfl) dX6_days_66 rfl rfl (Nat.le_of_ble_eq_true rfl)) (SP_X6_ocL hM n rr k hn hr hk h1 hW hWr h4 T hT feats _) ?_
    intro T2 hT2
    have e2 : T2 1 = S 1 := hT2 1 (by decide) (by decide)
    refine xw_iload_n (pc := 69) dX6_days_69 3 rfl ?_
    refine xw_icmp_ne (pc := 70) 77 dX6_days_70 rfl (fun hb70 => ?_) (fun hb70 => ?_)
    · refine xw_iconst (v := nI 0) (pc := 77) dX6_days_77 rfl ?_
      refine xn_iadd (pc := 78) dX6_days_78 ?_
      refine xw_istore (l' := [(4, _), (5, _), (0, _), (1, _), (2, _), (3, _)]) (pc := 79) dX6_days_79 (by decide) rfl ?_
      refine xw_iinc (v := nI (dd + 1)) (l' := [(5, _), (4, _), (0, _), (1, _), (2, _), (3, _)]) (pc := 81) dX6_days_81 1 rfl (nI_add _ 1) (by decide) rfl ?_
      refine xw_goto (pc := 84) 51 dX6_days_84 rfl ?_
      have h := ih (dd + 1) (by omega) (by omega) T2 hT2
      first
        | (rw [cntB_f (show (fun z => decide (oc (S 1) (S 0 14) rr k feats (nI z) = e)) dd = false by simp [hb70])] at h; exact h)
        | (rw [cntB_t (show (fun z => decide (oc (S 1) (S 0 14) rr k feats (nI z) = e)) dd = true by simp [hb70])] at h; exact h)
    · refine xw_iconst (v := nI 1) (pc := 73) dX6_days_73 rfl ?_
      refine xw_goto (pc := 74) 78 dX6_days_74 rfl ?_
      refine xn_iadd (pc := 78) dX6_days_78 ?_
      refine xw_istore (l' := [(4, _), (5, _), (0, _), (1, _), (2, _), (3, _)]) (pc := 79) dX6_days_79 (by decide) rfl ?_
      refine xw_iinc (v := nI (dd + 1)) (l' := [(5, _), (4, _), (0, _), (1, _), (2, _), (3, _)]) (pc := 81) dX6_days_81 1 rfl (nI_add _ 1) (by decide) rfl ?_
      refine xw_goto (pc := 84) 51 dX6_days_84 rfl ?_
      have h := ih (dd + 1) (by omega) (by omega) T2 hT2
      first
        | (rw [cntB_f (show (fun z => decide (oc (S 1) (S 0 14) rr k feats (nI z) = e)) dd = false by simp [hb70])] at h; exact h)
        | (rw [cntB_t (show (fun z => decide (oc (S 1) (S 0 14) rr k feats (nI z) = e)) dd = true by simp [hb70])] at h; exact h)
theorem lkEq_look' {S : xMS} {C H : Nat → Bool} {a b : Nat} (T : xMS) (h : lkEq S T) : lkEq S (lookP T C H a b) := lkEq_look h
theorem SP_X6_days_F {d : Nat} {g : xG} {m : Nat} {S : xMS} (hM : xMod g m) (n : Nat) (hn : n ≤ 10) (h0 : S 1 0 = nI n) (v : Int32) (hv : ¬ inR v (nI 0) (nI n - nI 1) = true) (e f : Int32) : XM M_X6_days (d + 3) [.ref m, .int e, .int v, .int f] (xWith g m S) (xOne (some (.int (nI 0))) (xWith g m (mset S 0 6 (nI 1)))) := by
  refine xm_of (by decide +kernel) (Nat.le_of_ble_eq_true rfl) ?_
  show XW _ _ 0 [(0, _), (1, _), (2, _), (3, _)] [] _ _
  refine xw_aload_n (pc := 0) dX6_days_0 0 rfl ?_
  refine xw_aload_n (pc := 1) dX6_days_1 0 rfl ?_
  refine xw_iload_n (pc := 2) dX6_days_2 2 rfl ?_
  refine xw_callV (pc := 3) (xr_V (as := [_]) ok_X6_isScope rfl (by decide) q2360 q2362 qs47 (by rw [xtag_with, hM.1]; rfl) (by rw [xtag_with, hM.1]; rfl) dX6_days_3 rfl rfl (Nat.le_of_ble_eq_true rfl)) (SP_X6_isScopeF hM n h0 (by assumption)) ?_
  refine xw_if_ne (pc := 6) 13 dX6_days_6 rfl (fun hb => absurd hb (by decide)) (fun _ => ?_)
  refine xw_iconst (v := nI 1) (pc := 9) dX6_days_9 rfl ?_
  refine xw_goto (pc := 10) 33 dX6_days_10 rfl ?_
  refine xm_putI (pc := 33) hM fd_X6_62 (xfin_of (by decide) (by decide +kernel)) dX6_days_33 ?_
  refine xw_aload_n (pc := 36) dX6_days_36 0 rfl ?_
  refine xm_getN (k := 1) (pc := 37) hM fd_X6_62 dX6_days_37 (by first | rfl | (simp [mset, mcpy]; done)) ?_
  refine xw_if_le (pc := 40) 45 dX6_days_40 rfl (fun hb => absurd hb (by decide)) (fun _ => ?_)
  refine xw_iconst (v := nI 0) (pc := 43) dX6_days_43 rfl ?_
  refine xw_iret (pc := 44) .int dX6_days_44 rfl ?_ 
  exact ⟨rfl, rfl⟩
theorem SP_X6_days_F2 {d : Nat} {g : xG} {m : Nat} {S : xMS} (hM : xMod g m) (n : Nat) (hn : n ≤ 10) (h0 : S 1 0 = nI n) (k : Nat) (hk : k < n) (e feats : Int32) (hbad : (inR e (nI 0) (nI 2) && isCs (nI 0) feats) = false) : XM M_X6_days (d + 3) [.ref m, .int e, .int (nI k), .int feats] (xWith g m S) (xOne (some (.int (nI 0))) (xWith g m (mset S 0 6 (nI 2)))) := by
  have hbad2 : inR e (nI 0) (nI 2) = false ∨ isCs (nI 0) feats = false := by
    cases h1 : inR e (nI 0) (nI 2) with
    | false => exact Or.inl rfl
    | true => rw [h1] at hbad; exact Or.inr hbad
  refine xm_of (by decide +kernel) (Nat.le_of_ble_eq_true rfl) ?_
  show XW _ _ 0 [(0, _), (1, _), (2, _), (3, _)] [] _ _
  refine xw_aload_n (pc := 0) dX6_days_0 0 rfl ?_
  refine xw_aload_n (pc := 1) dX6_days_1 0 rfl ?_
  refine xw_iload_n (pc := 2) dX6_days_2 2 rfl ?_
  refine xw_callV (pc := 3) (xr_V (as := [_]) ok_X6_isScope rfl (by decide) q2360 q2362 qs47 (by rw [xtag_with, hM.1]; rfl) (by rw [xtag_with, hM.1]; rfl) dX6_days_3 rfl rfl (Nat.le_of_ble_eq_true rfl)) (SP_X6_isScopeK hM k n hn (by assumption) (by first | exact h0 | (simp [mset_q, mset_s, mcpy_q, mcpy_s, chg_q, chg_0, push_q, push_0]; exact h0))) ?_
  refine xw_if_ne (pc := 6) 13 dX6_days_6 rfl (fun _ => ?_) (fun hb => absurd hb (by decide))
  refine xw_iload_n (pc := 13) dX6_days_13 1 rfl ?_
  refine xw_callV (pc := 14) (xr_S (as := [_]) ok_X6_isEffect rfl (by decide) q2415 q2416 dX6_days_14 rfl rfl (Nat.le_of_ble_eq_true rfl)) (SP_X6_isEffect) ?_
  refine xw_if_eq (pc := 17) 28 dX6_days_17 rfl (fun hb17 => ?_) (fun hb17 => ?_)
  · replace hb17 := bI_0.mp hb17
    refine xw_iconst (v := nI 2) (pc := 28) dX6_days_28 rfl ?_
    refine xw_goto (pc := 29) 33 dX6_days_29 rfl ?_
    refine xm_putI (pc := 33) hM fd_X6_62 (xfin_of (by decide) (by decide +kernel)) dX6_days_33 ?_
    refine xw_aload_n (pc := 36) dX6_days_36 0 rfl ?_
    refine xm_getN (k := 2) (pc := 37) hM fd_X6_62 dX6_days_37 (by first | rfl | (simp [mset, mcpy]; done)) ?_
    refine xw_if_le (pc := 40) 45 dX6_days_40 rfl (fun hb => absurd hb (by decide)) (fun _ => ?_)
    refine xw_iconst (v := nI 0) (pc := 43) dX6_days_43 rfl ?_
    refine xw_iret (pc := 44) .int dX6_days_44 rfl ?_ 
    exact ⟨rfl, rfl⟩
  · replace hb17 := bI_n0.mp hb17
    refine xw_iconst (v := nI 0) (pc := 20) dX6_days_20 rfl ?_
    refine xw_iload_n (pc := 21) dX6_days_21 3 rfl ?_
    refine xw_callV (pc := 22) (xr_S (as := [_, _]) ok_X6_isCase rfl (by decide) q2504 q2505 dX6_days_22 rfl rfl (Nat.le_of_ble_eq_true rfl)) (SP_X6_isCase) ?_
    refine xw_if_ne (pc := 25) 32 dX6_days_25 rfl (fun hb25 => ?_) (fun hb25 => ?_)
    · exfalso
      replace hb25 := bI_n0.mp hb25
      rcases hbad2 with q | q
      · rw [q] at hb17; cases hb17
      · rw [q] at hb25; cases hb25
    replace hb25 := bI_0.mp hb25
    refine xw_iconst (v := nI 2) (pc := 28) dX6_days_28 rfl ?_
    refine xw_goto (pc := 29) 33 dX6_days_29 rfl ?_
    refine xm_putI (pc := 33) hM fd_X6_62 (xfin_of (by decide) (by decide +kernel)) dX6_days_33 ?_
    refine xw_aload_n (pc := 36) dX6_days_36 0 rfl ?_
    refine xm_getN (k := 2) (pc := 37) hM fd_X6_62 dX6_days_37 (by first | rfl | (simp [mset, mcpy]; done)) ?_
    refine xw_if_le (pc := 40) 45 dX6_days_40 rfl (fun hb => absurd hb (by decide)) (fun _ => ?_)
    refine xw_iconst (v := nI 0) (pc := 43) dX6_days_43 rfl ?_
    refine xw_iret (pc := 44) .int dX6_days_44 rfl ?_ 
    exact ⟨rfl, rfl⟩
theorem SP_X6_days {d : Nat} {g : xG} {m : Nat} {S : xMS} (hM : xMod g m) (n : Nat) (hn : n ≤ 10) (h0 : S 1 0 = nI n) (rr : Nat) (hr : rr ≤ 16) (h1 : S 1 1 = nI rr) (hW : WFo (S 1) n) (hWr : WFr (S 1) n rr) (h4 : ¬ S 1 4 < 0) (k : Nat) (hk : k < n) (e feats : Int32) (he : inR e (nI 0) (nI 2) = true) (hf : isCs (nI 0) feats = true) : XM M_X6_days (d + 6) [.ref m, .int e, .int (nI k), .int feats] (xWith g m S) (xLk g m (mset S 0 6 (nI 0)) (nI (cntB (fun z => decide (oc (S 1) (S 0 14) rr k feats (nI z) = e)) 1000))) := by
  have e1 : (mset S 0 6 (nI 0)) 1 = S 1 := mset_q (by decide)
  have q1 : XM M_X6_isEffect (d + 4 + 1) [.int e] (xWith g m S) (xOne (some (.int (bI true))) (xWith g m S)) := by rw [← he]; exact SP_X6_isEffect
  have q2 : XM M_X6_isCase (d + 3 + 2) [.int (nI 0), .int feats] (xWith g m S) (xOne (some (.int (bI true))) (xWith g m S)) := by rw [← hf]; exact SP_X6_isCase
  refine xm_of (by decide +kernel) (Nat.le_of_ble_eq_true rfl) ?_
  show XW _ _ 0 [(0, _), (1, _), (2, _), (3, _)] [] _ _
  refine xw_aload_n (pc := 0) dX6_days_0 0 rfl ?_
  refine xw_aload_n (pc := 1) dX6_days_1 0 rfl ?_
  refine xw_iload_n (pc := 2) dX6_days_2 2 rfl ?_
  refine xw_callV (pc := 3) (xr_V (as := [_]) ok_X6_isScope rfl (by decide) q2360 q2362 qs47 (by rw [xtag_with, hM.1]; rfl) (by rw [xtag_with, hM.1]; rfl) dX6_days_3 rfl rfl (Nat.le_of_ble_eq_true rfl)) (SP_X6_isScopeK hM k n hn (by assumption) (by first | exact h0 | (simp [mset_q, mset_s, mcpy_q, mcpy_s, chg_q, chg_0, push_q, push_0]; exact h0))) ?_
  refine xw_if_ne (pc := 6) 13 dX6_days_6 rfl (fun _ => ?_) (fun hb => absurd hb (by decide))
  refine xw_iload_n (pc := 13) dX6_days_13 1 rfl ?_
  refine xw_callV (pc := 14) (xr_S (as := [_]) ok_X6_isEffect rfl (by decide) q2415 q2416 dX6_days_14 rfl rfl (Nat.le_of_ble_eq_true rfl)) (q1) ?_
  refine xw_if_eq (pc := 17) 28 dX6_days_17 rfl (fun hb => absurd hb (by decide)) (fun _ => ?_)
  refine xw_iconst (v := nI 0) (pc := 20) dX6_days_20 rfl ?_
  refine xw_iload_n (pc := 21) dX6_days_21 3 rfl ?_
  refine xw_callV (pc := 22) (xr_S (as := [_, _]) ok_X6_isCase rfl (by decide) q2504 q2505 dX6_days_22 rfl rfl (Nat.le_of_ble_eq_true rfl)) (q2) ?_
  refine xw_if_ne (pc := 25) 32 dX6_days_25 rfl (fun _ => ?_) (fun hb => absurd hb (by decide))
  refine xw_iconst (v := nI 0) (pc := 32) dX6_days_32 rfl ?_
  refine xm_putI (pc := 33) hM fd_X6_62 (xfin_of (by decide) (by decide +kernel)) dX6_days_33 ?_
  refine xw_aload_n (pc := 36) dX6_days_36 0 rfl ?_
  refine xm_getN (k := 0) (pc := 37) hM fd_X6_62 dX6_days_37 (by first | rfl | (simp [mset, mcpy]; done)) ?_
  refine xw_if_le (pc := 40) 45 dX6_days_40 rfl (fun _ => ?_) (fun hb => absurd hb (by decide))
  refine xw_iconst (v := nI 0) (pc := 45) dX6_days_45 rfl ?_
  refine xw_istore (l' := [(4, _), (0, _), (1, _), (2, _), (3, _)]) (pc := 46) dX6_days_46 (by decide) rfl ?_
  refine xw_iconst (v := nI 0) (pc := 48) dX6_days_48 rfl ?_
  refine xw_istore (l' := [(5, _), (4, _), (0, _), (1, _), (2, _), (3, _)]) (pc := 49) dX6_days_49 (by decide) rfl ?_
  have h := lp_X6_days (d := d + 1) (S := mset S 0 6 (nI 0)) hM n rr k hn hr hk (by rw [e1]; exact h1) (by rw [e1]; exact hW) (by rw [e1]; exact hWr) (by rw [e1]; exact h4) feats e 1001 0 (by omega) (by omega) _ (fun _ _ _ => rfl)
  simp only [e1] at h
  exact h
/-- each worked case's scope is one -/
def WFw (s : Nat → Int32) (n w : Nat) : Prop := ∀ k, k < w → isN s (343 + 4 * k) n
/-- its outcome; whether it's right -/
def wOut (s : Nat → Int32) (wo : Int32) (rr k : Nat) : Int32 := oc s wo rr (aN s (343 + 4 * k)) (s (343 + 4 * k + 2)) (s (343 + 4 * k + 1))
def wRt (s : Nat → Int32) (wo : Int32) (rr k : Nat) : Bool := decide (wOut s wo rr k = s (343 + 4 * k + 3))
def bset (P : Nat → Bool) : Nat → Int32
  | 0 => nI 0
  | k + 1 => bset P k ||| (if P k then nI 1 <<< (nI k &&& 31) else nI 0)
theorem SP_X6_outcomeOfWork {d : Nat} {g : xG} {m : Nat} {S : xMS} (hM : xMod g m) (n rr w : Nat) (hn : n ≤ 10) (hr : rr ≤ 16) (hw : w ≤ 12) (h1 : S 1 1 = nI rr) (h2 : S 1 2 = nI w) (hW : WFo (S 1) n) (hWr : WFr (S 1) n rr) (hWw : WFw (S 1) n w) (h4 : ¬ S 1 4 < 0) (k : Nat) (hk : k < w) (T : xMS) (hT : lkEq S T) : XM M_X6_outcomeOfWork (d + 5) [.ref m, .int (nI k)] (xWith g m T) (xLk g m S (wOut (S 1) (S 0 14) rr k) ) := by
  have e1 : T 1 = S 1 := hT 1 (by decide) (by decide)
  obtain ⟨s1, s2⟩ := hWw k hk
  refine xm_of (by decide +kernel) (Nat.le_of_ble_eq_true rfl) ?_
  show XW _ _ 0 [(0, _), (1, _)] [] _ _
  refine xw_sipush (v := nI 343) (pc := 0) dX6_outcomeOfWork_0 (by decide +kernel) ?_
  refine xw_iconst (v := nI 4) (pc := 3) dX6_outcomeOfWork_3 rfl ?_
  refine xw_iload_n (pc := 4) dX6_outcomeOfWork_4 1 rfl ?_
  refine xn_imul (pc := 5) dX6_outcomeOfWork_5 ?_
  refine xn_iadd (pc := 6) dX6_outcomeOfWork_6 ?_
  refine xw_istore_n (l' := [(2, _), (0, _), (1, _)]) (pc := 7) dX6_outcomeOfWork_7 rfl (by decide) rfl ?_
  refine xw_aload_n (pc := 8) dX6_outcomeOfWork_8 1 rfl ?_
  refine xw_aload_n (pc := 9) dX6_outcomeOfWork_9 1 rfl ?_
  refine xm_get (p := 1) (pc := 10) hM fd_X6_9 dX6_outcomeOfWork_10 rfl ?_
  refine xw_iload_n (pc := 13) dX6_outcomeOfWork_13 0 rfl ?_
  refine xm_ialdN (v := aN (S 1) (343 + 4 * k)) (pc := 14) hM dX6_outcomeOfWork_14 rfl (by omega) (by rw [e1]; exact s1) ?_
  refine xw_aload_n (pc := 15) dX6_outcomeOfWork_15 1 rfl ?_
  refine xm_get (p := 1) (pc := 16) hM fd_X6_9 dX6_outcomeOfWork_16 rfl ?_
  refine xw_iload_n (pc := 19) dX6_outcomeOfWork_19 0 rfl ?_
  refine xw_iconst (v := nI 1) (pc := 20) dX6_outcomeOfWork_20 rfl ?_
  refine xn_iadd (pc := 21) dX6_outcomeOfWork_21 ?_
  refine xm_iald (pc := 22) hM dX6_outcomeOfWork_22 rfl (by omega) ?_
  refine xw_aload_n (pc := 23) dX6_outcomeOfWork_23 1 rfl ?_
  refine xm_get (p := 1) (pc := 24) hM fd_X6_9 dX6_outcomeOfWork_24 rfl ?_
  refine xw_iload_n (pc := 27) dX6_outcomeOfWork_27 0 rfl ?_
  refine xw_iconst (v := nI 2) (pc := 28) dX6_outcomeOfWork_28 rfl ?_
  refine xn_iadd (pc := 29) dX6_outcomeOfWork_29 ?_
  refine xm_iald (pc := 30) hM dX6_outcomeOfWork_30 rfl (by omega) ?_
  rw [e1]
  refine xw_callL (pc := 31) (xr_V (as := [_, _, _]) ok_X6_outcomeOf rfl (by decide) q2532 q2534 qs70 (by rw [xtag_with, hM.1]; rfl) (by rw [xtag_with, hM.1]; rfl) dX6_outcomeOfWork_31 rfl rfl (Nat.le_of_ble_eq_true rfl)) (SP_X6_ocL hM n rr (aN (S 1) (343 + 4 * k)) hn hr s2 h1 hW hWr h4 T hT _ _) ?_
  intro T2 hT2
  have e2 : T2 1 = S 1 := hT2 1 (by decide) (by decide)
  refine xw_iret (pc := 34) .int dX6_outcomeOfWork_34 rfl ?_ 
  exact ⟨rfl, T2, hT2, rfl⟩
theorem SP_X6_isRight {d : Nat} {g : xG} {m : Nat} {S : xMS} (hM : xMod g m) (n rr w : Nat) (hn : n ≤ 10) (hr : rr ≤ 16) (hw : w ≤ 12) (h1 : S 1 1 = nI rr) (h2 : S 1 2 = nI w) (hW : WFo (S 1) n) (hWr : WFr (S 1) n rr) (hWw : WFw (S 1) n w) (h4 : ¬ S 1 4 < 0) (k : Nat) (hk : k < w) (T : xMS) (hT : lkEq S T) : XM M_X6_isRight (d + 6) [.ref m, .int (nI k)] (xWith g m T) (xLk g m S (bI (wRt (S 1) (S 0 14) rr k))) := by
  have hx := SP_X6_outcomeOfWork (d := d) hM n rr w hn hr hw h1 h2 hW hWr hWw h4 k hk T hT
  refine xm_of (by decide +kernel) (Nat.le_of_ble_eq_true rfl) ?_
  show XW _ _ 0 [(0, _), (1, _)] [] _ _
  refine xw_aload_n (pc := 0) dX6_isRight_0 0 rfl ?_
  refine xw_iload_n (pc := 1) dX6_isRight_1 1 rfl ?_
  refine xw_callL (pc := 2) (xr_V (as := [_]) ok_X6_outcomeOfWork rfl (by decide) q2594 q2596 qs77 (by rw [xtag_with, hM.1]; rfl) (by rw [xtag_with, hM.1]; rfl) dX6_isRight_2 rfl rfl (Nat.le_of_ble_eq_true rfl)) (hx) ?_
  intro T2 hT2
  have e2 : T2 1 = S 1 := hT2 1 (by decide) (by decide)
  refine xw_aload_n (pc := 5) dX6_isRight_5 0 rfl ?_
  refine xm_get (p := 1) (pc := 6) hM fd_X6_9 dX6_isRight_6 rfl ?_
  refine xw_sipush (v := nI 343) (pc := 9) dX6_isRight_9 (by decide +kernel) ?_
  refine xw_iconst (v := nI 4) (pc := 12) dX6_isRight_12 rfl ?_
  refine xw_iload_n (pc := 13) dX6_isRight_13 1 rfl ?_
  refine xn_imul (pc := 14) dX6_isRight_14 ?_
  refine xn_iadd (pc := 15) dX6_isRight_15 ?_
  refine xw_iconst (v := nI 3) (pc := 16) dX6_isRight_16 rfl ?_
  refine xn_iadd (pc := 17) dX6_isRight_17 ?_
  refine xm_iald (pc := 18) hM dX6_isRight_18 rfl (by omega) ?_
  refine xw_icmp_ne (pc := 19) 26 dX6_isRight_19 rfl (fun hb19 => ?_) (fun hb19 => ?_)
  · refine xw_iconst (v := nI 0) (pc := 26) dX6_isRight_26 rfl ?_
    refine xw_iret (pc := 27) .boolean dX6_isRight_27 rfl ?_ 
    rw [e2] at hb19
    refine ⟨congrArg (fun x => Sum.inl (some (Value.int x))) ?_, T2, hT2, rfl⟩
    simp [wRt, hb19]
    rfl
  · refine xw_iconst (v := nI 1) (pc := 22) dX6_isRight_22 rfl ?_
    refine xw_goto (pc := 23) 27 dX6_isRight_23 rfl ?_
    refine xw_iret (pc := 27) .boolean dX6_isRight_27 rfl ?_ 
    rw [e2] at hb19
    refine ⟨congrArg (fun x => Sum.inl (some (Value.int x))) ?_, T2, hT2, rfl⟩
    simp [wRt, hb19]
    rfl
theorem lp_X6_wrongSet {d : Nat} {g : xG} {m : Nat} {S : xMS} (hM : xMod g m) (n rr w : Nat) (hn : n ≤ 10) (hr : rr ≤ 16) (hw : w ≤ 12) (h1 : S 1 1 = nI rr) (h2 : S 1 2 = nI w) (hW : WFo (S 1) n) (hWr : WFr (S 1) n rr) (hWw : WFw (S 1) n w) (h4 : ¬ S 1 4 < 0) : ∀ (j k : Nat), w - k < j → k ≤ w → ∀ T, lkEq S T → XW M_X6_wrongSet (d + 7) 4 [(2, .int (nI k)), (1, .int (bset (fun z => !wRt (S 1) (S 0 14) rr z) k)), (0, .ref m)] [] (xWith g m T) (xLk g m S (bset (fun z => !wRt (S 1) (S 0 14) rr z) w)) := by
  intro j
  induction j with
  | zero => intro k h; omega
  | succ j ih =>
  intro k hj hk T hT
  have e1 : T 1 = S 1 := hT 1 (by decide) (by decide)
  have hx := fun hkw : k < w => SP_X6_isRight (d := d) hM n rr w hn hr hw h1 h2 hW hWr hWw h4 k hkw T hT
  refine xw_iload_n (pc := 4) dX6_wrongSet_4 0 rfl ?_
  refine xw_aload_n (pc := 5) dX6_wrongSet_5 2 rfl ?_
  refine xm_get (p := 1) (pc := 6) hM fd_X6_9 dX6_wrongSet_6 rfl ?_
  refine xw_iconst (v := nI 2) (pc := 9) dX6_wrongSet_9 rfl ?_
  refine xm_ialdN (v := w) (pc := 10) hM dX6_wrongSet_10 rfl (by omega) (by rw [e1]; exact h2) ?_
  refine xw_icmp_ge (pc := 11) 38 dX6_wrongSet_11 rfl (fun hb11 => ?_) (fun hb11 => ?_)
  · replace hb11 : w ≤ k := (nI_leI (a := w) (b := k) (by omega) (by omega)).mp hb11
    refine xw_iload_n (pc := 38) dX6_wrongSet_38 1 rfl ?_
    refine xw_iret (pc := 39) .int dX6_wrongSet_39 rfl ?_ 
    obtain rfl : k = w := by omega
    exact ⟨rfl, T, hT, rfl⟩
  · replace hb11 : ¬ (w ≤ k) := mt (nI_leI (a := w) (b := k) (by omega) (by omega)).mpr hb11
    refine xw_iload_n (pc := 14) dX6_wrongSet_14 1 rfl ?_
    refine xw_aload_n (pc := 15) dX6_wrongSet_15 2 rfl ?_
    refine xw_iload_n (pc := 16) dX6_wrongSet_16 0 rfl ?_
    refine xw_callL (pc := 17) (xr_V (as := [_]) ok_X6_isRight rfl (by decide) q2598 q2600 qs78 (by rw [xtag_with, hM.1]; rfl) (by rw [xtag_with, hM.1]; rfl) dX6_wrongSet_17 rfl rfl (Nat.le_of_ble_eq_true rfl)) (hx (by omega)) ?_
    intro T2 hT2
    have e2 : T2 1 = S 1 := hT2 1 (by decide) (by decide)
    refine xw_if_eq (pc := 20) 27 dX6_wrongSet_20 rfl (fun hb20 => ?_) (fun hb20 => ?_)
    · replace hb20 := bI_0.mp hb20
      refine xw_iconst (v := nI 1) (pc := 27) dX6_wrongSet_27 rfl ?_
      refine xw_iload_n (pc := 28) dX6_wrongSet_28 0 rfl ?_
      refine xw_ishl (pc := 29) dX6_wrongSet_29 ?_
      refine xw_ior (pc := 30) dX6_wrongSet_30 ?_
      refine xw_istore_n (l' := [(1, _), (2, _), (0, _)]) (pc := 31) dX6_wrongSet_31 rfl (by decide) rfl ?_
      refine xw_iinc (v := nI (k + 1)) (l' := [(2, _), (1, _), (0, _)]) (pc := 32) dX6_wrongSet_32 1 rfl (nI_add _ 1) (by decide) rfl ?_
      refine xw_goto (pc := 35) 4 dX6_wrongSet_35 rfl ?_
      have h := ih (k + 1) (by omega) (by omega) T2 hT2
      first
        | (rw [show bset (fun z => !wRt (S 1) (S 0 14) rr z) (k + 1) = bset (fun z => !wRt (S 1) (S 0 14) rr z) k ||| nI 0 from by simp [bset, hb20]] at h; exact h)
        | (rw [show bset (fun z => !wRt (S 1) (S 0 14) rr z) (k + 1) = bset (fun z => !wRt (S 1) (S 0 14) rr z) k ||| (nI 1 <<< (nI k &&& 31)) from by simp [bset, hb20]] at h; exact h)
    · replace hb20 := bI_n0.mp hb20
      refine xw_iconst (v := nI 0) (pc := 23) dX6_wrongSet_23 rfl ?_
      refine xw_goto (pc := 24) 30 dX6_wrongSet_24 rfl ?_
      refine xw_ior (pc := 30) dX6_wrongSet_30 ?_
      refine xw_istore_n (l' := [(1, _), (2, _), (0, _)]) (pc := 31) dX6_wrongSet_31 rfl (by decide) rfl ?_
      refine xw_iinc (v := nI (k + 1)) (l' := [(2, _), (1, _), (0, _)]) (pc := 32) dX6_wrongSet_32 1 rfl (nI_add _ 1) (by decide) rfl ?_
      refine xw_goto (pc := 35) 4 dX6_wrongSet_35 rfl ?_
      have h := ih (k + 1) (by omega) (by omega) T2 hT2
      first
        | (rw [show bset (fun z => !wRt (S 1) (S 0 14) rr z) (k + 1) = bset (fun z => !wRt (S 1) (S 0 14) rr z) k ||| nI 0 from by simp [bset, hb20]] at h; exact h)
        | (rw [show bset (fun z => !wRt (S 1) (S 0 14) rr z) (k + 1) = bset (fun z => !wRt (S 1) (S 0 14) rr z) k ||| (nI 1 <<< (nI k &&& 31)) from by simp [bset, hb20]] at h; exact h)
theorem SP_X6_wrongSet {d : Nat} {g : xG} {m : Nat} {S : xMS} (hM : xMod g m) (n rr w : Nat) (hn : n ≤ 10) (hr : rr ≤ 16) (hw : w ≤ 12) (h1 : S 1 1 = nI rr) (h2 : S 1 2 = nI w) (hW : WFo (S 1) n) (hWr : WFr (S 1) n rr) (hWw : WFw (S 1) n w) (h4 : ¬ S 1 4 < 0) (T : xMS) (hT : lkEq S T) : XM M_X6_wrongSet (d + 7) [.ref m] (xWith g m T) (xLk g m S (bset (fun z => !wRt (S 1) (S 0 14) rr z) w)) := by
  refine xm_of (by decide +kernel) (Nat.le_of_ble_eq_true rfl) ?_
  show XW _ _ 0 [(0, _)] [] _ _
  refine xw_iconst (v := nI 0) (pc := 0) dX6_wrongSet_0 rfl ?_
  refine xw_istore_n (l' := [(1, _), (0, _)]) (pc := 1) dX6_wrongSet_1 rfl (by decide) rfl ?_
  refine xw_iconst (v := nI 0) (pc := 2) dX6_wrongSet_2 rfl ?_
  refine xw_istore_n (l' := [(2, _), (1, _), (0, _)]) (pc := 3) dX6_wrongSet_3 rfl (by decide) rfl ?_
  exact lp_X6_wrongSet hM n rr w hn hr hw h1 h2 hW hWr hWw h4 (w + 1) 0 (by omega) (by omega) T hT
