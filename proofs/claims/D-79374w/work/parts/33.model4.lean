/-! MODEL 4: rules, told; tests -/
set_option maxRecDepth 100000
def okRule (rank first last : Int32) : Bool := inR rank (nI 0) (nI 9) && (inR first (nI 0) (nI 999) && inR last (nI 0) (nI 999))
def opRule (S : xMS) (rr p : Nat) (e sc rank first last : Int32) : Int32 × xMS := if (inR e (nI 0) (nI 2) && okRule rank first last) = false then (nI 0, mset S 0 6 (nI 2)) else opAdd (mset S 0 6 (nI 0)) rr p (hind0 rr first last) e (-1) sc rank first last
def opExcept (S : xMS) (rr p q k : Nat) (rank first last : Int32) : Int32 × xMS := if okRule rank first last = false then (nI 0, mset S 0 6 (nI 2)) else opAdd (mset S 0 6 (nI 0)) rr p (hindQ (S 1) rr q k first last) (-1) (nI q) (nI k) rank first last
theorem SP_X6_rule_F {d : Nat} {g : xG} {m : Nat} {S : xMS} (hM : xMod g m) (n : Nat) (hn : n ≤ 10) (h0 : S 1 0 = nI n) (v : Int32) (hv : ¬ inR v (nI 0) (nI n - nI 1) = true) (e : Int32) (rank first last : Int32) : XM M_X6_rule (d + 2) [.ref m, .int e, .int v, .int rank, .int first, .int last] (xWith g m S) (xOne (some (.int (nI 0))) (xWith g m (mset S 0 6 (nI 1)))) := by
  refine xm_of (by decide +kernel) (Nat.le_of_ble_eq_true rfl) ?_
  show XW _ _ 0 [(0, _), (1, _), (2, _), (3, _), (4, _), (5, _)] [] _ _
  refine xw_aload_n (pc := 0) dX6_rule_0 0 rfl ?_
  refine xw_aload_n (pc := 1) dX6_rule_1 0 rfl ?_
  refine xw_iload_n (pc := 2) dX6_rule_2 2 rfl ?_
  refine xw_callV (pc := 3) (xr_V (as := [_]) ok_X6_isScope rfl (by decide) q2360 q2362 qs47 (by rw [xtag_with, hM.1]; rfl) (by rw [xtag_with, hM.1]; rfl) dX6_rule_3 rfl rfl (Nat.le_of_ble_eq_true rfl)) (SP_X6_isScopeF hM n h0 (by assumption)) ?_
  refine xw_if_ne (pc := 6) 13 dX6_rule_6 rfl (fun hb => absurd hb (by decide)) (fun _ => ?_)
  refine xw_iconst (v := nI 1) (pc := 9) dX6_rule_9 rfl ?_
  refine xw_goto (pc := 10) 51 dX6_rule_10 rfl ?_
  refine xm_putI (pc := 51) hM fd_X6_62 (xfin_of (by decide) (by decide +kernel)) dX6_rule_51 ?_
  refine xw_aload_n (pc := 54) dX6_rule_54 0 rfl ?_
  refine xm_getN (k := 1) (pc := 55) hM fd_X6_62 dX6_rule_55 (by first | rfl | (simp [mset, mcpy]; done)) ?_
  refine xw_if_le (pc := 58) 65 dX6_rule_58 rfl (fun hb => absurd hb (by decide)) (fun _ => ?_)
  refine xw_iconst (v := nI 0) (pc := 61) dX6_rule_61 rfl ?_
  refine xw_goto (pc := 62) 77 dX6_rule_62 rfl ?_
  refine xw_iret (pc := 77) .int dX6_rule_77 rfl ?_ 
  exact ⟨rfl, rfl⟩
theorem SP_X6_rule {d : Nat} {g : xG} {m : Nat} {S : xMS} (hM : xMod g m) (n : Nat) (hn : n ≤ 10) (h0 : S 1 0 = nI n) (rr : Nat) (hr : rr ≤ 16) (h1 : S 1 1 = nI rr) (p : Nat) (hp : p ≤ 8) (hpm : S 0 5 = nI p) (k : Nat) (hk : k < n) (e : Int32) (rank first last : Int32) : XM M_X6_rule (d + 5) [.ref m, .int e, .int (nI k), .int rank, .int first, .int last] (xWith g m S) (xOne (some (.int (opRule S rr p e (nI k) rank first last).1)) (xWith g m (opRule S rr p e (nI k) rank first last).2)) := by
  refine xm_of (by decide +kernel) (Nat.le_of_ble_eq_true rfl) ?_
  show XW _ _ 0 [(0, _), (1, _), (2, _), (3, _), (4, _), (5, _)] [] _ _
  refine xw_aload_n (pc := 0) dX6_rule_0 0 rfl ?_
  refine xw_aload_n (pc := 1) dX6_rule_1 0 rfl ?_
  refine xw_iload_n (pc := 2) dX6_rule_2 2 rfl ?_
  refine xw_callV (pc := 3) (xr_V (as := [_]) ok_X6_isScope rfl (by decide) q2360 q2362 qs47 (by rw [xtag_with, hM.1]; rfl) (by rw [xtag_with, hM.1]; rfl) dX6_rule_3 rfl rfl (Nat.le_of_ble_eq_true rfl)) (SP_X6_isScopeK hM k n hn (by assumption) (by first | exact h0 | (simp [mset_q, mset_s, mcpy_q, mcpy_s, chg_q, chg_0, push_q, push_0]; exact h0))) ?_
  refine xw_if_ne (pc := 6) 13 dX6_rule_6 rfl (fun _ => ?_) (fun hb => absurd hb (by decide))
  refine xw_iload_n (pc := 13) dX6_rule_13 1 rfl ?_
  refine xw_callV (pc := 14) (xr_S (as := [_]) ok_X6_isEffect rfl (by decide) q2415 q2416 dX6_rule_14 rfl rfl (Nat.le_of_ble_eq_true rfl)) (SP_X6_isEffect) ?_
  refine xw_if_eq (pc := 17) 46 dX6_rule_17 rfl (fun hb17 => ?_) (fun hb17 => ?_)
  · replace hb17 := bI_0.mp hb17
    refine xw_iconst (v := nI 2) (pc := 46) dX6_rule_46 rfl ?_
    refine xw_goto (pc := 47) 51 dX6_rule_47 rfl ?_
    refine xm_putI (pc := 51) hM fd_X6_62 (xfin_of (by decide) (by decide +kernel)) dX6_rule_51 ?_
    refine xw_aload_n (pc := 54) dX6_rule_54 0 rfl ?_
    refine xm_getN (k := 2) (pc := 55) hM fd_X6_62 dX6_rule_55 (by first | rfl | (simp [mset, mcpy]; done)) ?_
    refine xw_if_le (pc := 58) 65 dX6_rule_58 rfl (fun hb => absurd hb (by decide)) (fun _ => ?_)
    refine xw_iconst (v := nI 0) (pc := 61) dX6_rule_61 rfl ?_
    refine xw_goto (pc := 62) 77 dX6_rule_62 rfl ?_
    refine xw_iret (pc := 77) .int dX6_rule_77 rfl ?_ 
    refine ⟨?_, ?_⟩ <;> simp_all [opRule, okRule]
  · replace hb17 := bI_n0.mp hb17
    refine xw_iload_n (pc := 20) dX6_rule_20 3 rfl ?_
    refine xw_iconst (v := nI 0) (pc := 21) dX6_rule_21 rfl ?_
    refine xw_bipush (v := nI 9) (pc := 22) dX6_rule_22 (by decide +kernel) ?_
    refine xw_callV (pc := 24) (xr_S (as := [_, _, _]) ok_X6_in rfl (by decide) q2364 q2365 dX6_rule_24 rfl rfl (Nat.le_of_ble_eq_true rfl)) (SP_X6_in) ?_
    refine xw_if_eq (pc := 27) 46 dX6_rule_27 rfl (fun hb27 => ?_) (fun hb27 => ?_)
    · replace hb27 := bI_0.mp hb27
      refine xw_iconst (v := nI 2) (pc := 46) dX6_rule_46 rfl ?_
      refine xw_goto (pc := 47) 51 dX6_rule_47 rfl ?_
      refine xm_putI (pc := 51) hM fd_X6_62 (xfin_of (by decide) (by decide +kernel)) dX6_rule_51 ?_
      refine xw_aload_n (pc := 54) dX6_rule_54 0 rfl ?_
      refine xm_getN (k := 2) (pc := 55) hM fd_X6_62 dX6_rule_55 (by first | rfl | (simp [mset, mcpy]; done)) ?_
      refine xw_if_le (pc := 58) 65 dX6_rule_58 rfl (fun hb => absurd hb (by decide)) (fun _ => ?_)
      refine xw_iconst (v := nI 0) (pc := 61) dX6_rule_61 rfl ?_
      refine xw_goto (pc := 62) 77 dX6_rule_62 rfl ?_
      refine xw_iret (pc := 77) .int dX6_rule_77 rfl ?_ 
      refine ⟨?_, ?_⟩ <;> simp_all [opRule, okRule]
    · replace hb27 := bI_n0.mp hb27
      refine xw_iload (pc := 30) dX6_rule_30 4 rfl ?_
      refine xw_callV (pc := 32) (xr_S (as := [_]) ok_X6_isDay rfl (by decide) q2418 q2419 dX6_rule_32 rfl rfl (Nat.le_of_ble_eq_true rfl)) (SP_X6_isDay) ?_
      refine xw_if_eq (pc := 35) 46 dX6_rule_35 rfl (fun hb35 => ?_) (fun hb35 => ?_)
      · replace hb35 := bI_0.mp hb35
        refine xw_iconst (v := nI 2) (pc := 46) dX6_rule_46 rfl ?_
        refine xw_goto (pc := 47) 51 dX6_rule_47 rfl ?_
        refine xm_putI (pc := 51) hM fd_X6_62 (xfin_of (by decide) (by decide +kernel)) dX6_rule_51 ?_
        refine xw_aload_n (pc := 54) dX6_rule_54 0 rfl ?_
        refine xm_getN (k := 2) (pc := 55) hM fd_X6_62 dX6_rule_55 (by first | rfl | (simp [mset, mcpy]; done)) ?_
        refine xw_if_le (pc := 58) 65 dX6_rule_58 rfl (fun hb => absurd hb (by decide)) (fun _ => ?_)
        refine xw_iconst (v := nI 0) (pc := 61) dX6_rule_61 rfl ?_
        refine xw_goto (pc := 62) 77 dX6_rule_62 rfl ?_
        refine xw_iret (pc := 77) .int dX6_rule_77 rfl ?_ 
        refine ⟨?_, ?_⟩ <;> simp_all [opRule, okRule]
      · replace hb35 := bI_n0.mp hb35
        refine xw_iload (pc := 38) dX6_rule_38 5 rfl ?_
        refine xw_callV (pc := 40) (xr_S (as := [_]) ok_X6_isDay rfl (by decide) q2418 q2419 dX6_rule_40 rfl rfl (Nat.le_of_ble_eq_true rfl)) (SP_X6_isDay) ?_
        refine xw_if_ne (pc := 43) 50 dX6_rule_43 rfl (fun hb43 => ?_) (fun hb43 => ?_)
        · replace hb43 := bI_n0.mp hb43
          refine xw_iconst (v := nI 0) (pc := 50) dX6_rule_50 rfl ?_
          refine xm_putI (pc := 51) hM fd_X6_62 (xfin_of (by decide) (by decide +kernel)) dX6_rule_51 ?_
          refine xw_aload_n (pc := 54) dX6_rule_54 0 rfl ?_
          refine xm_getN (k := 0) (pc := 55) hM fd_X6_62 dX6_rule_55 (by first | rfl | (simp [mset, mcpy]; done)) ?_
          refine xw_if_le (pc := 58) 65 dX6_rule_58 rfl (fun _ => ?_) (fun hb => absurd hb (by decide))
          refine xw_aload_n (pc := 65) dX6_rule_65 0 rfl ?_
          refine xw_iload_n (pc := 66) dX6_rule_66 1 rfl ?_
          refine xw_iconst (v := -1) (pc := 67) dX6_rule_67 (by decide +kernel) ?_
          refine xw_iload_n (pc := 68) dX6_rule_68 2 rfl ?_
          refine xw_iload_n (pc := 69) dX6_rule_69 3 rfl ?_
          refine xw_iload (pc := 70) dX6_rule_70 4 rfl ?_
          refine xw_iload (pc := 72) dX6_rule_72 5 rfl ?_
          refine xw_callV (pc := 74) (xr_V (as := [_, _, _, _, _, _]) ok_X6_add rfl (by decide) q2421 q2423 qs55 (by rw [xtag_with, hM.1]; rfl) (by rw [xtag_with, hM.1]; rfl) dX6_rule_74 rfl rfl (Nat.le_of_ble_eq_true rfl)) (SP_X6_add0 hM rr hr (by simp [mset_q, mset_s, mcpy_q, mcpy_s, chg_q, chg_0, push_q, push_0]; exact h1) p hp (by simp [mset_q, mset_s, mcpy_q, mcpy_s, chg_q, chg_0, push_q, push_0]; exact hpm) _ _ _ _ _) ?_
          refine xw_iret (pc := 77) .int dX6_rule_77 rfl ?_ 
          refine ⟨?_, ?_⟩ <;> simp_all [opRule, okRule]
        · replace hb43 := bI_0.mp hb43
          refine xw_iconst (v := nI 2) (pc := 46) dX6_rule_46 rfl ?_
          refine xw_goto (pc := 47) 51 dX6_rule_47 rfl ?_
          refine xm_putI (pc := 51) hM fd_X6_62 (xfin_of (by decide) (by decide +kernel)) dX6_rule_51 ?_
          refine xw_aload_n (pc := 54) dX6_rule_54 0 rfl ?_
          refine xm_getN (k := 2) (pc := 55) hM fd_X6_62 dX6_rule_55 (by first | rfl | (simp [mset, mcpy]; done)) ?_
          refine xw_if_le (pc := 58) 65 dX6_rule_58 rfl (fun hb => absurd hb (by decide)) (fun _ => ?_)
          refine xw_iconst (v := nI 0) (pc := 61) dX6_rule_61 rfl ?_
          refine xw_goto (pc := 62) 77 dX6_rule_62 rfl ?_
          refine xw_iret (pc := 77) .int dX6_rule_77 rfl ?_ 
          refine ⟨?_, ?_⟩ <;> simp_all [opRule, okRule]
theorem SP_X6_except_F {d : Nat} {g : xG} {m : Nat} {S : xMS} (hM : xMod g m) (rr : Nat) (hr : rr ≤ 16) (h1 : S 1 1 = nI rr) (v : Int32) (hv : ¬ inR v (nI 0) (nI rr - nI 1) = true) (e : Int32) (rank first last : Int32) : XM M_X6_except (d + 2) [.ref m, .int v, .int e, .int rank, .int first, .int last] (xWith g m S) (xOne (some (.int (nI 0))) (xWith g m (mset S 0 6 (nI 1)))) := by
  refine xm_of (by decide +kernel) (Nat.le_of_ble_eq_true rfl) ?_
  show XW _ _ 0 [(0, _), (1, _), (2, _), (3, _), (4, _), (5, _)] [] _ _
  refine xw_aload_n (pc := 0) dX6_except_0 0 rfl ?_
  refine xw_aload_n (pc := 1) dX6_except_1 0 rfl ?_
  refine xw_iload_n (pc := 2) dX6_except_2 1 rfl ?_
  refine xw_callV (pc := 3) (xr_V (as := [_]) ok_X6_isRule rfl (by decide) q2445 q2447 qs60 (by rw [xtag_with, hM.1]; rfl) (by rw [xtag_with, hM.1]; rfl) dX6_except_3 rfl rfl (Nat.le_of_ble_eq_true rfl)) (SP_X6_isRuleF hM rr h1 (by assumption)) ?_
  refine xw_if_eq (pc := 6) 17 dX6_except_6 rfl (fun _ => ?_) (fun hb => absurd hb (by decide))
  refine xw_iconst (v := nI 1) (pc := 17) dX6_except_17 rfl ?_
  refine xw_goto (pc := 18) 52 dX6_except_18 rfl ?_
  refine xm_putI (pc := 52) hM fd_X6_62 (xfin_of (by decide) (by decide +kernel)) dX6_except_52 ?_
  refine xw_aload_n (pc := 55) dX6_except_55 0 rfl ?_
  refine xm_getN (k := 1) (pc := 56) hM fd_X6_62 dX6_except_56 (by first | rfl | (simp [mset, mcpy]; done)) ?_
  refine xw_if_le (pc := 59) 66 dX6_except_59 rfl (fun hb => absurd hb (by decide)) (fun _ => ?_)
  refine xw_iconst (v := nI 0) (pc := 62) dX6_except_62 rfl ?_
  refine xw_goto (pc := 63) 78 dX6_except_63 rfl ?_
  refine xw_iret (pc := 78) .int dX6_except_78 rfl ?_ 
  exact ⟨rfl, rfl⟩
theorem SP_X6_except_F2 {d : Nat} {g : xG} {m : Nat} {S : xMS} (hM : xMod g m) (n : Nat) (hn : n ≤ 10) (h0 : S 1 0 = nI n) (rr : Nat) (hr : rr ≤ 16) (h1 : S 1 1 = nI rr) (q : Nat) (hq : q < rr) (v : Int32) (hv : ¬ inR v (nI 0) (nI n - nI 1) = true) (rank first last : Int32) : XM M_X6_except (d + 2) [.ref m, .int (nI q), .int v, .int rank, .int first, .int last] (xWith g m S) (xOne (some (.int (nI 0))) (xWith g m (mset S 0 6 (nI 1)))) := by
  refine xm_of (by decide +kernel) (Nat.le_of_ble_eq_true rfl) ?_
  show XW _ _ 0 [(0, _), (1, _), (2, _), (3, _), (4, _), (5, _)] [] _ _
  refine xw_aload_n (pc := 0) dX6_except_0 0 rfl ?_
  refine xw_aload_n (pc := 1) dX6_except_1 0 rfl ?_
  refine xw_iload_n (pc := 2) dX6_except_2 1 rfl ?_
  refine xw_callV (pc := 3) (xr_V (as := [_]) ok_X6_isRule rfl (by decide) q2445 q2447 qs60 (by rw [xtag_with, hM.1]; rfl) (by rw [xtag_with, hM.1]; rfl) dX6_except_3 rfl rfl (Nat.le_of_ble_eq_true rfl)) (SP_X6_isRuleK hM q rr hr (by assumption) h1) ?_
  refine xw_if_eq (pc := 6) 17 dX6_except_6 rfl (fun hb => absurd hb (by decide)) (fun _ => ?_)
  refine xw_aload_n (pc := 9) dX6_except_9 0 rfl ?_
  refine xw_iload_n (pc := 10) dX6_except_10 2 rfl ?_
  refine xw_callV (pc := 11) (xr_V (as := [_]) ok_X6_isScope rfl (by decide) q2360 q2362 qs47 (by rw [xtag_with, hM.1]; rfl) (by rw [xtag_with, hM.1]; rfl) dX6_except_11 rfl rfl (Nat.le_of_ble_eq_true rfl)) (SP_X6_isScopeF hM n h0 (by assumption)) ?_
  refine xw_if_ne (pc := 14) 21 dX6_except_14 rfl (fun hb => absurd hb (by decide)) (fun _ => ?_)
  refine xw_iconst (v := nI 1) (pc := 17) dX6_except_17 rfl ?_
  refine xw_goto (pc := 18) 52 dX6_except_18 rfl ?_
  refine xm_putI (pc := 52) hM fd_X6_62 (xfin_of (by decide) (by decide +kernel)) dX6_except_52 ?_
  refine xw_aload_n (pc := 55) dX6_except_55 0 rfl ?_
  refine xm_getN (k := 1) (pc := 56) hM fd_X6_62 dX6_except_56 (by first | rfl | (simp [mset, mcpy]; done)) ?_
  refine xw_if_le (pc := 59) 66 dX6_except_59 rfl (fun hb => absurd hb (by decide)) (fun _ => ?_)
  refine xw_iconst (v := nI 0) (pc := 62) dX6_except_62 rfl ?_
  refine xw_goto (pc := 63) 78 dX6_except_63 rfl ?_
  refine xw_iret (pc := 78) .int dX6_except_78 rfl ?_ 
  exact ⟨rfl, rfl⟩
theorem SP_X6_except {d : Nat} {g : xG} {m : Nat} {S : xMS} (hM : xMod g m) (n : Nat) (hn : n ≤ 10) (h0 : S 1 0 = nI n) (rr : Nat) (hr : rr ≤ 16) (h1 : S 1 1 = nI rr) (p : Nat) (hp : p ≤ 8) (hpm : S 0 5 = nI p) (hW : WFo (S 1) n) (hWp : WFp (S 1) rr) (hWs : WFsc (S 1) n rr) (q k : Nat) (hq : q < rr) (hk : k < n) (rank first last : Int32) : XM M_X6_except (d + 5) [.ref m, .int (nI q), .int (nI k), .int rank, .int first, .int last] (xWith g m S) (xOne (some (.int (opExcept S rr p q k rank first last).1)) (xWith g m (opExcept S rr p q k rank first last).2)) := by
  have e1 : (mset S 0 6 (nI 0)) 1 = S 1 := mset_q (by decide)
  refine xm_of (by decide +kernel) (Nat.le_of_ble_eq_true rfl) ?_
  show XW _ _ 0 [(0, _), (1, _), (2, _), (3, _), (4, _), (5, _)] [] _ _
  refine xw_aload_n (pc := 0) dX6_except_0 0 rfl ?_
  refine xw_aload_n (pc := 1) dX6_except_1 0 rfl ?_
  refine xw_iload_n (pc := 2) dX6_except_2 1 rfl ?_
  refine xw_callV (pc := 3) (xr_V (as := [_]) ok_X6_isRule rfl (by decide) q2445 q2447 qs60 (by rw [xtag_with, hM.1]; rfl) (by rw [xtag_with, hM.1]; rfl) dX6_except_3 rfl rfl (Nat.le_of_ble_eq_true rfl)) (SP_X6_isRuleK hM q rr hr (by assumption) h1) ?_
  refine xw_if_eq (pc := 6) 17 dX6_except_6 rfl (fun hb => absurd hb (by decide)) (fun _ => ?_)
  refine xw_aload_n (pc := 9) dX6_except_9 0 rfl ?_
  refine xw_iload_n (pc := 10) dX6_except_10 2 rfl ?_
  refine xw_callV (pc := 11) (xr_V (as := [_]) ok_X6_isScope rfl (by decide) q2360 q2362 qs47 (by rw [xtag_with, hM.1]; rfl) (by rw [xtag_with, hM.1]; rfl) dX6_except_11 rfl rfl (Nat.le_of_ble_eq_true rfl)) (SP_X6_isScopeK hM k n hn (by assumption) (by first | exact h0 | (simp [mset_q, mset_s, mcpy_q, mcpy_s, chg_q, chg_0, push_q, push_0]; exact h0))) ?_
  refine xw_if_ne (pc := 14) 21 dX6_except_14 rfl (fun _ => ?_) (fun hb => absurd hb (by decide))
  refine xw_iload_n (pc := 21) dX6_except_21 3 rfl ?_
  refine xw_iconst (v := nI 0) (pc := 22) dX6_except_22 rfl ?_
  refine xw_bipush (v := nI 9) (pc := 23) dX6_except_23 (by decide +kernel) ?_
  refine xw_callV (pc := 25) (xr_S (as := [_, _, _]) ok_X6_in rfl (by decide) q2364 q2365 dX6_except_25 rfl rfl (Nat.le_of_ble_eq_true rfl)) (SP_X6_in) ?_
  refine xw_if_eq (pc := 28) 47 dX6_except_28 rfl (fun hb28 => ?_) (fun hb28 => ?_)
  · replace hb28 := bI_0.mp hb28
    refine xw_iconst (v := nI 2) (pc := 47) dX6_except_47 rfl ?_
    refine xw_goto (pc := 48) 52 dX6_except_48 rfl ?_
    refine xm_putI (pc := 52) hM fd_X6_62 (xfin_of (by decide) (by decide +kernel)) dX6_except_52 ?_
    refine xw_aload_n (pc := 55) dX6_except_55 0 rfl ?_
    refine xm_getN (k := 2) (pc := 56) hM fd_X6_62 dX6_except_56 (by first | rfl | (simp [mset, mcpy]; done)) ?_
    refine xw_if_le (pc := 59) 66 dX6_except_59 rfl (fun hb => absurd hb (by decide)) (fun _ => ?_)
    refine xw_iconst (v := nI 0) (pc := 62) dX6_except_62 rfl ?_
    refine xw_goto (pc := 63) 78 dX6_except_63 rfl ?_
    refine xw_iret (pc := 78) .int dX6_except_78 rfl ?_ 
    refine ⟨?_, ?_⟩ <;> simp_all [opExcept, okRule]
  · replace hb28 := bI_n0.mp hb28
    refine xw_iload (pc := 31) dX6_except_31 4 rfl ?_
    refine xw_callV (pc := 33) (xr_S (as := [_]) ok_X6_isDay rfl (by decide) q2418 q2419 dX6_except_33 rfl rfl (Nat.le_of_ble_eq_true rfl)) (SP_X6_isDay) ?_
    refine xw_if_eq (pc := 36) 47 dX6_except_36 rfl (fun hb36 => ?_) (fun hb36 => ?_)
    · replace hb36 := bI_0.mp hb36
      refine xw_iconst (v := nI 2) (pc := 47) dX6_except_47 rfl ?_
      refine xw_goto (pc := 48) 52 dX6_except_48 rfl ?_
      refine xm_putI (pc := 52) hM fd_X6_62 (xfin_of (by decide) (by decide +kernel)) dX6_except_52 ?_
      refine xw_aload_n (pc := 55) dX6_except_55 0 rfl ?_
      refine xm_getN (k := 2) (pc := 56) hM fd_X6_62 dX6_except_56 (by first | rfl | (simp [mset, mcpy]; done)) ?_
      refine xw_if_le (pc := 59) 66 dX6_except_59 rfl (fun hb => absurd hb (by decide)) (fun _ => ?_)
      refine xw_iconst (v := nI 0) (pc := 62) dX6_except_62 rfl ?_
      refine xw_goto (pc := 63) 78 dX6_except_63 rfl ?_
      refine xw_iret (pc := 78) .int dX6_except_78 rfl ?_ 
      refine ⟨?_, ?_⟩ <;> simp_all [opExcept, okRule]
    · replace hb36 := bI_n0.mp hb36
      refine xw_iload (pc := 39) dX6_except_39 5 rfl ?_
      refine xw_callV (pc := 41) (xr_S (as := [_]) ok_X6_isDay rfl (by decide) q2418 q2419 dX6_except_41 rfl rfl (Nat.le_of_ble_eq_true rfl)) (SP_X6_isDay) ?_
      refine xw_if_ne (pc := 44) 51 dX6_except_44 rfl (fun hb44 => ?_) (fun hb44 => ?_)
      · replace hb44 := bI_n0.mp hb44
        refine xw_iconst (v := nI 0) (pc := 51) dX6_except_51 rfl ?_
        refine xm_putI (pc := 52) hM fd_X6_62 (xfin_of (by decide) (by decide +kernel)) dX6_except_52 ?_
        refine xw_aload_n (pc := 55) dX6_except_55 0 rfl ?_
        refine xm_getN (k := 0) (pc := 56) hM fd_X6_62 dX6_except_56 (by first | rfl | (simp [mset, mcpy]; done)) ?_
        refine xw_if_le (pc := 59) 66 dX6_except_59 rfl (fun _ => ?_) (fun hb => absurd hb (by decide))
        refine xw_aload_n (pc := 66) dX6_except_66 0 rfl ?_
        refine xw_iconst (v := -1) (pc := 67) dX6_except_67 (by decide +kernel) ?_
        refine xw_iload_n (pc := 68) dX6_except_68 1 rfl ?_
        refine xw_iload_n (pc := 69) dX6_except_69 2 rfl ?_
        refine xw_iload_n (pc := 70) dX6_except_70 3 rfl ?_
        refine xw_iload (pc := 71) dX6_except_71 4 rfl ?_
        refine xw_iload (pc := 73) dX6_except_73 5 rfl ?_
        refine xw_callV (pc := 75) (xr_V (as := [_, _, _, _, _, _]) ok_X6_add rfl (by decide) q2421 q2423 qs55 (by rw [xtag_with, hM.1]; rfl) (by rw [xtag_with, hM.1]; rfl) dX6_except_75 rfl rfl (Nat.le_of_ble_eq_true rfl)) (SP_X6_addQ hM n hn rr hr (by rw [e1]; exact h1) p hp (by simp [mset_q, mset_s, mcpy_q, mcpy_s, chg_q, chg_0, push_q, push_0]; exact hpm) _ _ _ _ (by rw [e1]; exact hW) (by rw [e1]; exact hWp) (by rw [e1]; exact hWs) q k hq hk) ?_
        refine xw_iret (pc := 78) .int dX6_except_78 rfl ?_ 
        refine ⟨?_, ?_⟩ <;> simp_all [opExcept, okRule]
      · replace hb44 := bI_0.mp hb44
        refine xw_iconst (v := nI 2) (pc := 47) dX6_except_47 rfl ?_
        refine xw_goto (pc := 48) 52 dX6_except_48 rfl ?_
        refine xm_putI (pc := 52) hM fd_X6_62 (xfin_of (by decide) (by decide +kernel)) dX6_except_52 ?_
        refine xw_aload_n (pc := 55) dX6_except_55 0 rfl ?_
        refine xm_getN (k := 2) (pc := 56) hM fd_X6_62 dX6_except_56 (by first | rfl | (simp [mset, mcpy]; done)) ?_
        refine xw_if_le (pc := 59) 66 dX6_except_59 rfl (fun hb => absurd hb (by decide)) (fun _ => ?_)
        refine xw_iconst (v := nI 0) (pc := 62) dX6_except_62 rfl ?_
        refine xw_goto (pc := 63) 78 dX6_except_63 rfl ?_
        refine xw_iret (pc := 78) .int dX6_except_78 rfl ?_ 
        refine ⟨?_, ?_⟩ <;> simp_all [opExcept, okRule]
def tOK (a : Nat → Int32) (j : Nat) (f v : Int32) : Bool := !decide (a j = f) || fulf v (aN a (j + 1)) (a (j + 2))
def allK (P : Nat → Bool) : Nat → Bool
  | 0 => true
  | k + 1 => allK P k && P k
def anyK (P : Nat → Bool) : Nat → Bool
  | 0 => false
  | k + 1 => anyK P k || P k
/-- tests of the rule r; those that are to come -/
def tR (S : xMS) (r : Nat) (f v : Int32) (k : Nat) : Bool := tOK (S 1) (23 + 20 * r + 8 + 3 * k) f v
def tM (S : xMS) (f v : Int32) (k : Nat) : Bool := tOK (S 5) (3 * k) f v
/-- the signs are signs -/
def WFsg (S : xMS) (r t : Nat) : Prop := ∀ k, k < t → isN (S 1) (23 + 20 * r + 8 + 3 * k + 1) 4
def WFmo (S : xMS) (mm : Nat) : Prop := ∀ k, k < mm → isN (S 5) (3 * k + 1) 4
theorem lp2_X6_fulfilsAll {d : Nat} {g : xG} {m : Nat} {S : xMS} (hM : xMod g m) (mm : Nat) (hmm : mm ≤ 60) (h5 : S 0 11 = nI mm) (hW : WFmo S mm) {f v a : Int32} (b : Bool) : ∀ (j k : Nat), mm - k < j → k ≤ mm → XW M_X6_fulfilsAll (d + 2) 97 [(5, .int (nI k)), (4, .int (bI (b && allK (tM S f v) k))), (0, .ref m), (1, .int a), (2, .int f), (3, .int v)] [] (xWith g m S) (xOne (some (.int (bI (b && allK (tM S f v) mm)))) (xWith g m S)) := by
  intro j
  induction j with
  | zero => intro r h; omega
  | succ j ih =>
  intro k hj hk
  have hs : k < mm → _ := hW k
  refine xw_iload (pc := 97) dX6_fulfilsAll_97 0 rfl ?_
  refine xw_aload_n (pc := 99) dX6_fulfilsAll_99 2 rfl ?_
  refine xm_getN (k := mm) (pc := 100) hM fd_X6_145 dX6_fulfilsAll_100 (by exact h5) ?_
  refine xw_icmp_ge (pc := 103) 166 dX6_fulfilsAll_103 rfl (fun hb103 => ?_) (fun hb103 => ?_)
  · replace hb103 : mm ≤ k := (nI_leI (a := mm) (b := k) (by omega) (by omega)).mp hb103
    refine xw_iload (pc := 166) dX6_fulfilsAll_166 1 rfl ?_
    refine xw_iret (pc := 168) .boolean dX6_fulfilsAll_168 rfl ?_ (by first | rfl | (cases ‹Bool› <;> rfl) | exact xnB _)
    obtain rfl : k = mm := by omega
    exact ⟨rfl, rfl⟩
  · replace hb103 : ¬ (mm ≤ k) := mt (nI_leI (a := mm) (b := k) (by omega) (by omega)).mpr hb103
    refine xw_iload (pc := 106) dX6_fulfilsAll_106 1 rfl ?_
    refine xw_if_eq (pc := 108) 157 dX6_fulfilsAll_108 rfl (fun hb108 => ?_) (fun hb108 => ?_)
    · replace hb108 := bI_0.mp hb108
      refine xw_iconst (v := nI 0) (pc := 157) dX6_fulfilsAll_157 rfl ?_
      refine xw_istore (l' := [(4, _), (5, _), (0, _), (1, _), (2, _), (3, _)]) (pc := 158) dX6_fulfilsAll_158 (by decide) rfl ?_
      refine xw_iinc (v := nI (k + 1)) (l' := [(5, _), (4, _), (0, _), (1, _), (2, _), (3, _)]) (pc := 160) dX6_fulfilsAll_160 1 rfl (nI_add _ 1) (by decide) rfl ?_
      refine xw_goto (pc := 163) 97 dX6_fulfilsAll_163 rfl ?_
      have h := ih (k + 1) (by omega) (by omega)
      first
        | (have e : (b && allK (tM S f v) (k + 1)) = true := by simp_all [allK, tM, tOK]
           rw [e] at h; exact h)
        | (have e : (b && allK (tM S f v) (k + 1)) = false := by simp_all [allK, tM, tOK]
           rw [e] at h; exact h)
    · replace hb108 := bI_n0.mp hb108
      refine xw_aload_n (pc := 111) dX6_fulfilsAll_111 2 rfl ?_
      refine xm_get (p := 5) (pc := 112) hM fd_X6_22 dX6_fulfilsAll_112 rfl ?_
      refine xw_iconst (v := nI 3) (pc := 115) dX6_fulfilsAll_115 rfl ?_
      refine xw_iload (pc := 116) dX6_fulfilsAll_116 0 rfl ?_
      refine xn_imul (pc := 118) dX6_fulfilsAll_118 ?_
      refine xm_iald (pc := 119) hM dX6_fulfilsAll_119 rfl (by omega) ?_
      refine xw_iload_n (pc := 120) dX6_fulfilsAll_120 4 rfl ?_
      refine xw_icmp_ne (pc := 121) 153 dX6_fulfilsAll_121 rfl (fun hb121 => ?_) (fun hb121 => ?_)
      · refine xw_iconst (v := nI 1) (pc := 153) dX6_fulfilsAll_153 rfl ?_
        refine xw_goto (pc := 154) 158 dX6_fulfilsAll_154 rfl ?_
        refine xw_istore (l' := [(4, _), (5, _), (0, _), (1, _), (2, _), (3, _)]) (pc := 158) dX6_fulfilsAll_158 (by decide) rfl ?_
        refine xw_iinc (v := nI (k + 1)) (l' := [(5, _), (4, _), (0, _), (1, _), (2, _), (3, _)]) (pc := 160) dX6_fulfilsAll_160 1 rfl (nI_add _ 1) (by decide) rfl ?_
        refine xw_goto (pc := 163) 97 dX6_fulfilsAll_163 rfl ?_
        have h := ih (k + 1) (by omega) (by omega)
        first
          | (have e : (b && allK (tM S f v) (k + 1)) = true := by simp_all [allK, tM, tOK]
             rw [e] at h; exact h)
          | (have e : (b && allK (tM S f v) (k + 1)) = false := by simp_all [allK, tM, tOK]
             rw [e] at h; exact h)
      · refine xw_iload_n (pc := 124) dX6_fulfilsAll_124 5 rfl ?_
        refine xw_aload_n (pc := 125) dX6_fulfilsAll_125 2 rfl ?_
        refine xm_get (p := 5) (pc := 126) hM fd_X6_22 dX6_fulfilsAll_126 rfl ?_
        refine xw_iconst (v := nI 3) (pc := 129) dX6_fulfilsAll_129 rfl ?_
        refine xw_iload (pc := 130) dX6_fulfilsAll_130 0 rfl ?_
        refine xn_imul (pc := 132) dX6_fulfilsAll_132 ?_
        refine xw_iconst (v := nI 1) (pc := 133) dX6_fulfilsAll_133 rfl ?_
        refine xn_iadd (pc := 134) dX6_fulfilsAll_134 ?_
        refine xm_ialdN (v := aN (S 5) (3 * k + 1)) (pc := 135) hM dX6_fulfilsAll_135 rfl (by omega) (by exact (hs (by omega)).1) ?_
        refine xw_aload_n (pc := 136) dX6_fulfilsAll_136 2 rfl ?_
        refine xm_get (p := 5) (pc := 137) hM fd_X6_22 dX6_fulfilsAll_137 rfl ?_
        refine xw_iconst (v := nI 3) (pc := 140) dX6_fulfilsAll_140 rfl ?_
        refine xw_iload (pc := 141) dX6_fulfilsAll_141 0 rfl ?_
        refine xn_imul (pc := 143) dX6_fulfilsAll_143 ?_
        refine xw_iconst (v := nI 2) (pc := 144) dX6_fulfilsAll_144 rfl ?_
        refine xn_iadd (pc := 145) dX6_fulfilsAll_145 ?_
        refine xm_iald (pc := 146) hM dX6_fulfilsAll_146 rfl (by omega) ?_
        refine xw_callV (pc := 147) (xr_S (as := [_, _, _]) ok_X6_fulfils rfl (by decide) q2473 q2474 dX6_fulfilsAll_147 rfl rfl (Nat.le_of_ble_eq_true rfl)) (SP_X6_fulfils _ (hs (by omega)).2) ?_
        refine xw_if_eq (pc := 150) 157 dX6_fulfilsAll_150 rfl (fun hb150 => ?_) (fun hb150 => ?_)
        · replace hb150 := bI_0.mp hb150
          refine xw_iconst (v := nI 0) (pc := 157) dX6_fulfilsAll_157 rfl ?_
          refine xw_istore (l' := [(4, _), (5, _), (0, _), (1, _), (2, _), (3, _)]) (pc := 158) dX6_fulfilsAll_158 (by decide) rfl ?_
          refine xw_iinc (v := nI (k + 1)) (l' := [(5, _), (4, _), (0, _), (1, _), (2, _), (3, _)]) (pc := 160) dX6_fulfilsAll_160 1 rfl (nI_add _ 1) (by decide) rfl ?_
          refine xw_goto (pc := 163) 97 dX6_fulfilsAll_163 rfl ?_
          have h := ih (k + 1) (by omega) (by omega)
          first
            | (have e : (b && allK (tM S f v) (k + 1)) = true := by simp_all [allK, tM, tOK]
               rw [e] at h; exact h)
            | (have e : (b && allK (tM S f v) (k + 1)) = false := by simp_all [allK, tM, tOK]
               rw [e] at h; exact h)
        · replace hb150 := bI_n0.mp hb150
          refine xw_iconst (v := nI 1) (pc := 153) dX6_fulfilsAll_153 rfl ?_
          refine xw_goto (pc := 154) 158 dX6_fulfilsAll_154 rfl ?_
          refine xw_istore (l' := [(4, _), (5, _), (0, _), (1, _), (2, _), (3, _)]) (pc := 158) dX6_fulfilsAll_158 (by decide) rfl ?_
          refine xw_iinc (v := nI (k + 1)) (l' := [(5, _), (4, _), (0, _), (1, _), (2, _), (3, _)]) (pc := 160) dX6_fulfilsAll_160 1 rfl (nI_add _ 1) (by decide) rfl ?_
          refine xw_goto (pc := 163) 97 dX6_fulfilsAll_163 rfl ?_
          have h := ih (k + 1) (by omega) (by omega)
          first
            | (have e : (b && allK (tM S f v) (k + 1)) = true := by simp_all [allK, tM, tOK]
               rw [e] at h; exact h)
            | (have e : (b && allK (tM S f v) (k + 1)) = false := by simp_all [allK, tM, tOK]
               rw [e] at h; exact h)
theorem lp1_X6_fulfilsAll {d : Nat} {g : xG} {m : Nat} {S : xMS} (hM : xMod g m) {Q : Option Value ⊕ Nat → xG → Prop} (r t : Nat) (hr : r < 16) (ht : t ≤ 4) (h7 : S 1 (23 + 20 * r + 7) = nI t) (hW : WFsg S r t) {f v : Int32} : ∀ (j k : Nat), t - k < j → k ≤ t → XW M_X6_fulfilsAll (d + 2) 94 [(5, .int (nI t)), (4, .int (bI (allK (tR S r f v) t))), (0, .ref m), (1, .int (nI r)), (2, .int f), (3, .int v)] [] (xWith g m S) Q → XW M_X6_fulfilsAll (d + 2) 6 [(5, .int (nI k)), (4, .int (bI (allK (tR S r f v) k))), (0, .ref m), (1, .int (nI r)), (2, .int f), (3, .int v)] [] (xWith g m S) Q := by
  intro j
  induction j with
  | zero => intro r h; omega
  | succ j ih =>
  intro k hj hk hq
  have hs : k < t → _ := hW k
  refine xw_iload (pc := 6) dX6_fulfilsAll_6 0 rfl ?_
  refine xw_iload_n (pc := 8) dX6_fulfilsAll_8 3 rfl ?_
  refine xw_if_ge (pc := 9) 16 dX6_fulfilsAll_9 rfl (fun hb9 => ?_) (fun hb9 => ?_)
  rotate_left
  · exfalso
    replace hb9 : ¬ (0 ≤ r) := mt (nI_leI (a := 0) (b := r) (by omega) (by omega)).mpr hb9
    omega
  replace hb9 : 0 ≤ r := (nI_leI (a := 0) (b := r) (by omega) (by omega)).mp hb9
  refine xw_aload_n (pc := 16) dX6_fulfilsAll_16 2 rfl ?_
  refine xw_iload_n (pc := 17) dX6_fulfilsAll_17 3 rfl ?_
  refine xw_bipush (v := nI 7) (pc := 18) dX6_fulfilsAll_18 (by decide +kernel) ?_
  refine xw_callV (pc := 20) (xr_V (as := [_, _]) ok_X6_of rfl (by decide) q2396 q2398 qs53 (by rw [xtag_with, hM.1]; rfl) (by rw [xtag_with, hM.1]; rfl) dX6_fulfilsAll_20 rfl rfl (Nat.le_of_ble_eq_true rfl)) (SP_X6_ofN hM r 7 t (by omega) h7) ?_
  refine xw_icmp_ge (pc := 23) 94 dX6_fulfilsAll_23 rfl (fun hb23 => ?_) (fun hb23 => ?_)
  · replace hb23 : t ≤ k := (nI_leI (a := t) (b := k) (by omega) (by omega)).mp hb23
    obtain rfl : k = t := by omega
    exact hq
  · replace hb23 : ¬ (t ≤ k) := mt (nI_leI (a := t) (b := k) (by omega) (by omega)).mpr hb23
    refine xw_iload_n (pc := 26) dX6_fulfilsAll_26 3 rfl ?_
    refine xw_callV (pc := 27) (xr_S (as := [_]) ok_X6_at rfl (by decide) q2400 q2401 dX6_fulfilsAll_27 rfl rfl (Nat.le_of_ble_eq_true rfl)) (SP_X6_at (r)) ?_
    refine xw_bipush (v := nI 8) (pc := 30) dX6_fulfilsAll_30 (by decide +kernel) ?_
    refine xn_iadd (pc := 32) dX6_fulfilsAll_32 ?_
    refine xw_iconst (v := nI 3) (pc := 33) dX6_fulfilsAll_33 rfl ?_
    refine xw_iload (pc := 34) dX6_fulfilsAll_34 0 rfl ?_
    refine xn_imul (pc := 36) dX6_fulfilsAll_36 ?_
    refine xn_iadd (pc := 37) dX6_fulfilsAll_37 ?_
    refine xw_istore (l' := [(6, _), (5, _), (4, _), (0, _), (1, _), (2, _), (3, _)]) (pc := 38) dX6_fulfilsAll_38 (by decide) rfl ?_
    refine xw_iload (pc := 40) dX6_fulfilsAll_40 2 rfl ?_
    refine xw_if_eq (pc := 42) 85 dX6_fulfilsAll_42 rfl (fun hb42 => ?_) (fun hb42 => ?_)
    · replace hb42 := bI_0.mp hb42
      refine xw_iconst (v := nI 0) (pc := 85) dX6_fulfilsAll_85 rfl ?_
      refine xw_istore (l' := [(4, _), (6, _), (5, _), (0, _), (1, _), (2, _), (3, _)]) (pc := 86) dX6_fulfilsAll_86 (by decide) rfl ?_
      refine xw_iinc (v := nI (k + 1)) (l' := [(5, _), (4, _), (6, _), (0, _), (1, _), (2, _), (3, _)]) (pc := 88) dX6_fulfilsAll_88 2 rfl (nI_add _ 1) (by decide) rfl ?_
      refine xw_goto (pc := 91) 6 dX6_fulfilsAll_91 rfl ?_
      refine xw_pick (pc := 6) (l' := [(5, _), (4, _), (0, _), (1, _), (2, _), (3, _)]) [0, 1, 3, 4, 5, 6] rfl ?_
      have h := ih (k + 1) (by omega) (by omega) hq
      first
        | (have e : allK (tR S r f v) (k + 1) = true := by simp_all [allK, tR, tOK]
           rw [e] at h; exact h)
        | (have e : allK (tR S r f v) (k + 1) = false := by simp_all [allK, tR, tOK]
           rw [e] at h; exact h)
    · replace hb42 := bI_n0.mp hb42
      refine xw_aload_n (pc := 45) dX6_fulfilsAll_45 3 rfl ?_
      refine xm_get (p := 1) (pc := 46) hM fd_X6_9 dX6_fulfilsAll_46 rfl ?_
      refine xw_iload (pc := 49) dX6_fulfilsAll_49 0 rfl ?_
      refine xm_iald (pc := 51) hM dX6_fulfilsAll_51 rfl (by omega) ?_
      refine xw_iload_n (pc := 52) dX6_fulfilsAll_52 5 rfl ?_
      refine xw_icmp_ne (pc := 53) 81 dX6_fulfilsAll_53 rfl (fun hb53 => ?_) (fun hb53 => ?_)
      · refine xw_iconst (v := nI 1) (pc := 81) dX6_fulfilsAll_81 rfl ?_
        refine xw_goto (pc := 82) 86 dX6_fulfilsAll_82 rfl ?_
        refine xw_istore (l' := [(4, _), (6, _), (5, _), (0, _), (1, _), (2, _), (3, _)]) (pc := 86) dX6_fulfilsAll_86 (by decide) rfl ?_
        refine xw_iinc (v := nI (k + 1)) (l' := [(5, _), (4, _), (6, _), (0, _), (1, _), (2, _), (3, _)]) (pc := 88) dX6_fulfilsAll_88 2 rfl (nI_add _ 1) (by decide) rfl ?_
        refine xw_goto (pc := 91) 6 dX6_fulfilsAll_91 rfl ?_
        refine xw_pick (pc := 6) (l' := [(5, _), (4, _), (0, _), (1, _), (2, _), (3, _)]) [0, 1, 3, 4, 5, 6] rfl ?_
        have h := ih (k + 1) (by omega) (by omega) hq
        first
          | (have e : allK (tR S r f v) (k + 1) = true := by simp_all [allK, tR, tOK]
             rw [e] at h; exact h)
          | (have e : allK (tR S r f v) (k + 1) = false := by simp_all [allK, tR, tOK]
             rw [e] at h; exact h)
      · refine xw_iload_n (pc := 56) dX6_fulfilsAll_56 6 rfl ?_
        refine xw_aload_n (pc := 57) dX6_fulfilsAll_57 3 rfl ?_
        refine xm_get (p := 1) (pc := 58) hM fd_X6_9 dX6_fulfilsAll_58 rfl ?_
        refine xw_iload (pc := 61) dX6_fulfilsAll_61 0 rfl ?_
        refine xw_iconst (v := nI 1) (pc := 63) dX6_fulfilsAll_63 rfl ?_
        refine xn_iadd (pc := 64) dX6_fulfilsAll_64 ?_
        refine xm_ialdN (v := aN (S 1) (23 + 20 * r + 8 + 3 * k + 1)) (pc := 65) hM dX6_fulfilsAll_65 rfl (by omega) (by exact (hs (by omega)).1) ?_
        refine xw_aload_n (pc := 66) dX6_fulfilsAll_66 3 rfl ?_
        refine xm_get (p := 1) (pc := 67) hM fd_X6_9 dX6_fulfilsAll_67 rfl ?_
        refine xw_iload (pc := 70) dX6_fulfilsAll_70 0 rfl ?_
        refine xw_iconst (v := nI 2) (pc := 72) dX6_fulfilsAll_72 rfl ?_
        refine xn_iadd (pc := 73) dX6_fulfilsAll_73 ?_
        refine xm_iald (pc := 74) hM dX6_fulfilsAll_74 rfl (by omega) ?_
        refine xw_callV (pc := 75) (xr_S (as := [_, _, _]) ok_X6_fulfils rfl (by decide) q2473 q2474 dX6_fulfilsAll_75 rfl rfl (Nat.le_of_ble_eq_true rfl)) (SP_X6_fulfils _ (hs (by omega)).2) ?_
        refine xw_if_eq (pc := 78) 85 dX6_fulfilsAll_78 rfl (fun hb78 => ?_) (fun hb78 => ?_)
        · replace hb78 := bI_0.mp hb78
          refine xw_iconst (v := nI 0) (pc := 85) dX6_fulfilsAll_85 rfl ?_
          refine xw_istore (l' := [(4, _), (6, _), (5, _), (0, _), (1, _), (2, _), (3, _)]) (pc := 86) dX6_fulfilsAll_86 (by decide) rfl ?_
          refine xw_iinc (v := nI (k + 1)) (l' := [(5, _), (4, _), (6, _), (0, _), (1, _), (2, _), (3, _)]) (pc := 88) dX6_fulfilsAll_88 2 rfl (nI_add _ 1) (by decide) rfl ?_
          refine xw_goto (pc := 91) 6 dX6_fulfilsAll_91 rfl ?_
          refine xw_pick (pc := 6) (l' := [(5, _), (4, _), (0, _), (1, _), (2, _), (3, _)]) [0, 1, 3, 4, 5, 6] rfl ?_
          have h := ih (k + 1) (by omega) (by omega) hq
          first
            | (have e : allK (tR S r f v) (k + 1) = true := by simp_all [allK, tR, tOK]
               rw [e] at h; exact h)
            | (have e : allK (tR S r f v) (k + 1) = false := by simp_all [allK, tR, tOK]
               rw [e] at h; exact h)
        · replace hb78 := bI_n0.mp hb78
          refine xw_iconst (v := nI 1) (pc := 81) dX6_fulfilsAll_81 rfl ?_
          refine xw_goto (pc := 82) 86 dX6_fulfilsAll_82 rfl ?_
          refine xw_istore (l' := [(4, _), (6, _), (5, _), (0, _), (1, _), (2, _), (3, _)]) (pc := 86) dX6_fulfilsAll_86 (by decide) rfl ?_
          refine xw_iinc (v := nI (k + 1)) (l' := [(5, _), (4, _), (6, _), (0, _), (1, _), (2, _), (3, _)]) (pc := 88) dX6_fulfilsAll_88 2 rfl (nI_add _ 1) (by decide) rfl ?_
          refine xw_goto (pc := 91) 6 dX6_fulfilsAll_91 rfl ?_
          refine xw_pick (pc := 6) (l' := [(5, _), (4, _), (0, _), (1, _), (2, _), (3, _)]) [0, 1, 3, 4, 5, 6] rfl ?_
          have h := ih (k + 1) (by omega) (by omega) hq
          first
            | (have e : allK (tR S r f v) (k + 1) = true := by simp_all [allK, tR, tOK]
               rw [e] at h; exact h)
            | (have e : allK (tR S r f v) (k + 1) = false := by simp_all [allK, tR, tOK]
               rw [e] at h; exact h)
theorem SP_X6_fulfilsAllR {d : Nat} {g : xG} {m : Nat} {S : xMS} (hM : xMod g m) (r t mm : Nat) (hr : r < 16) (ht : t ≤ 4) (h7 : S 1 (23 + 20 * r + 7) = nI t) (hW : WFsg S r t) (hmm : mm ≤ 60) (h5 : S 0 11 = nI mm) (hWm : WFmo S mm) (f v : Int32) : XM M_X6_fulfilsAll (d + 2) [.ref m, .int (nI r), .int f, .int v] (xWith g m S) (xOne (some (.int (bI (allK (tR S r f v) t && allK (tM S f v) mm)))) (xWith g m S)) := by
  refine xm_of (by decide +kernel) (Nat.le_of_ble_eq_true rfl) ?_
  show XW _ _ 0 [(0, _), (1, _), (2, _), (3, _)] [] _ _
  refine xw_iconst (v := nI 1) (pc := 0) dX6_fulfilsAll_0 rfl ?_
  refine xw_istore (l' := [(4, _), (0, _), (1, _), (2, _), (3, _)]) (pc := 1) dX6_fulfilsAll_1 (by decide) rfl ?_
  refine xw_iconst (v := nI 0) (pc := 3) dX6_fulfilsAll_3 rfl ?_
  refine xw_istore (l' := [(5, _), (4, _), (0, _), (1, _), (2, _), (3, _)]) (pc := 4) dX6_fulfilsAll_4 (by decide) rfl ?_
  refine lp1_X6_fulfilsAll hM r t hr ht h7 hW 5 0 (by omega) (by omega) ?_
  refine xw_iconst (v := nI 0) (pc := 94) dX6_fulfilsAll_94 rfl ?_
  refine xw_istore (l' := [(5, _), (4, _), (0, _), (1, _), (2, _), (3, _)]) (pc := 95) dX6_fulfilsAll_95 (by decide) rfl ?_
  have h := lp2_X6_fulfilsAll (d := d) hM mm hmm h5 hWm (f := f) (v := v) (a := nI r) (allK (tR S r f v) t) (mm + 1) 0 (by omega) (by omega)
  rw [show (allK (tR S r f v) t && allK (tM S f v) 0) = allK (tR S r f v) t from by simp [allK]] at h
  exact h
theorem SP_X6_fulfilsAll0 {d : Nat} {g : xG} {m : Nat} {S : xMS} (hM : xMod g m) (mm : Nat) (hmm : mm ≤ 60) (h5 : S 0 11 = nI mm) (hWm : WFmo S mm) (f v : Int32) : XM M_X6_fulfilsAll (d + 2) [.ref m, .int (-1), .int f, .int v] (xWith g m S) (xOne (some (.int (bI (allK (tM S f v) mm)))) (xWith g m S)) := by
  refine xm_of (by decide +kernel) (Nat.le_of_ble_eq_true rfl) ?_
  show XW _ _ 0 [(0, _), (1, _), (2, _), (3, _)] [] _ _
  refine xw_iconst (v := nI 1) (pc := 0) dX6_fulfilsAll_0 rfl ?_
  refine xw_istore (l' := [(4, _), (0, _), (1, _), (2, _), (3, _)]) (pc := 1) dX6_fulfilsAll_1 (by decide) rfl ?_
  refine xw_iconst (v := nI 0) (pc := 3) dX6_fulfilsAll_3 rfl ?_
  refine xw_istore (l' := [(5, _), (4, _), (0, _), (1, _), (2, _), (3, _)]) (pc := 4) dX6_fulfilsAll_4 (by decide) rfl ?_
  refine xw_iload (pc := 6) dX6_fulfilsAll_6 0 rfl ?_
  refine xw_iload_n (pc := 8) dX6_fulfilsAll_8 3 rfl ?_
  refine xw_if_ge (pc := 9) 16 dX6_fulfilsAll_9 rfl (fun hb9 => ?_) (fun hb9 => ?_)
  · exfalso
    exact absurd hb9 (by decide)
  refine xw_iconst (v := nI 0) (pc := 12) dX6_fulfilsAll_12 rfl ?_
  refine xw_goto (pc := 13) 23 dX6_fulfilsAll_13 rfl ?_
  refine xw_icmp_ge (pc := 23) 94 dX6_fulfilsAll_23 rfl (fun _ => ?_) (fun hb => absurd hb (by decide))
  refine xw_iconst (v := nI 0) (pc := 94) dX6_fulfilsAll_94 rfl ?_
  refine xw_istore (l' := [(5, _), (4, _), (0, _), (1, _), (2, _), (3, _)]) (pc := 95) dX6_fulfilsAll_95 (by decide) rfl ?_
  have h := lp2_X6_fulfilsAll (d := d) hM mm hmm h5 hWm (f := f) (v := v) (a := -1) true (mm + 1) 0 (by omega) (by omega)
  rw [Bool.true_and, Bool.true_and] at h
  exact h
def lostK (B : Nat → Bool) : Nat → Nat → Int32
  | 0, _ => -1
  | j + 1, f => if B f = false then nI f else lostK B j (f + 1)
/-- for no digit -/
def lostF (FA : Int32 → Int32 → Bool) : Int32 := lostK (fun f => anyK (fun v => FA (nI f) (nI v)) 10) 6 0
theorem lp2_X6_lostFeature {d : Nat} {g : xG} {m : Nat} {S : xMS} (hM : xMod g m) {Q : Option Value ⊕ Nat → xG → Prop} {rl : Int32} {FA : Int32 → Int32 → Bool} (hFA : ∀ f v : Int32, XM M_X6_fulfilsAll (d + 2) [.ref m, .int rl, .int f, .int v] (xWith g m S) (xOne (some (.int (bI (FA f v)))) (xWith g m S))) (f : Nat) : ∀ (j k : Nat), 10 - k < j → k ≤ 10 → XW M_X6_lostFeature (d + 3) 47 [(4, .int (nI 10)), (3, .int (bI (anyK (fun v => FA (nI f) (nI v)) 10))), (2, .int (nI f)), (0, .ref m), (1, .int rl)] [] (xWith g m S) Q → XW M_X6_lostFeature (d + 3) 13 [(4, .int (nI k)), (3, .int (bI (anyK (fun v => FA (nI f) (nI v)) k))), (2, .int (nI f)), (0, .ref m), (1, .int rl)] [] (xWith g m S) Q := by
  intro j
  induction j with
  | zero => intro r h; omega
  | succ j ih =>
  intro k hj hk hq
  refine xw_iload (pc := 13) dX6_lostFeature_13 0 rfl ?_
  refine xw_bipush (v := nI 10) (pc := 15) dX6_lostFeature_15 (by decide +kernel) ?_
  refine xw_icmp_ge (pc := 17) 47 dX6_lostFeature_17 rfl (fun hb17 => ?_) (fun hb17 => ?_)
  · replace hb17 : 10 ≤ k := (nI_leI (a := 10) (b := k) (by omega) (by omega)).mp hb17
    obtain rfl : k = 10 := by omega
    exact hq
  · replace hb17 : ¬ (10 ≤ k) := mt (nI_leI (a := 10) (b := k) (by omega) (by omega)).mpr hb17
    refine xw_iload_n (pc := 20) dX6_lostFeature_20 1 rfl ?_
    refine xw_if_ne (pc := 21) 35 dX6_lostFeature_21 rfl (fun hb21 => ?_) (fun hb21 => ?_)
    · replace hb21 := bI_n0.mp hb21
      refine xw_iconst (v := nI 1) (pc := 35) dX6_lostFeature_35 rfl ?_
      refine xw_goto (pc := 36) 40 dX6_lostFeature_36 rfl ?_
      refine xw_istore_n (l' := [(3, _), (4, _), (2, _), (0, _), (1, _)]) (pc := 40) dX6_lostFeature_40 rfl (by decide) rfl ?_
      refine xw_iinc (v := nI (k + 1)) (l' := [(4, _), (3, _), (2, _), (0, _), (1, _)]) (pc := 41) dX6_lostFeature_41 1 rfl (nI_add _ 1) (by decide) rfl ?_
      refine xw_goto (pc := 44) 13 dX6_lostFeature_44 rfl ?_
      have h := ih (k + 1) (by omega) (by omega) hq
      first
        | (have e : anyK (fun v => FA (nI f) (nI v)) (k + 1) = true := by simp_all [anyK]
           rw [e] at h; exact h)
        | (have e : anyK (fun v => FA (nI f) (nI v)) (k + 1) = false := by simp_all [anyK]
           rw [e] at h; exact h)
    · replace hb21 := bI_0.mp hb21
      refine xw_aload_n (pc := 24) dX6_lostFeature_24 3 rfl ?_
      refine xw_iload_n (pc := 25) dX6_lostFeature_25 4 rfl ?_
      refine xw_iload_n (pc := 26) dX6_lostFeature_26 2 rfl ?_
      refine xw_iload (pc := 27) dX6_lostFeature_27 0 rfl ?_
      refine xw_callV (pc := 29) (xr_V (as := [_, _, _]) ok_X6_fulfilsAll rfl (by decide) q2469 q2471 qs65 (by rw [xtag_with, hM.1]; rfl) (by rw [xtag_with, hM.1]; rfl) dX6_lostFeature_29 rfl rfl (Nat.le_of_ble_eq_true rfl)) (hFA _ _) ?_
      refine xw_if_eq (pc := 32) 39 dX6_lostFeature_32 rfl (fun hb32 => ?_) (fun hb32 => ?_)
      · replace hb32 := bI_0.mp hb32
        refine xw_iconst (v := nI 0) (pc := 39) dX6_lostFeature_39 rfl ?_
        refine xw_istore_n (l' := [(3, _), (4, _), (2, _), (0, _), (1, _)]) (pc := 40) dX6_lostFeature_40 rfl (by decide) rfl ?_
        refine xw_iinc (v := nI (k + 1)) (l' := [(4, _), (3, _), (2, _), (0, _), (1, _)]) (pc := 41) dX6_lostFeature_41 1 rfl (nI_add _ 1) (by decide) rfl ?_
        refine xw_goto (pc := 44) 13 dX6_lostFeature_44 rfl ?_
        have h := ih (k + 1) (by omega) (by omega) hq
        first
          | (have e : anyK (fun v => FA (nI f) (nI v)) (k + 1) = true := by simp_all [anyK]
             rw [e] at h; exact h)
          | (have e : anyK (fun v => FA (nI f) (nI v)) (k + 1) = false := by simp_all [anyK]
             rw [e] at h; exact h)
      · replace hb32 := bI_n0.mp hb32
        refine xw_iconst (v := nI 1) (pc := 35) dX6_lostFeature_35 rfl ?_
        refine xw_goto (pc := 36) 40 dX6_lostFeature_36 rfl ?_
        refine xw_istore_n (l' := [(3, _), (4, _), (2, _), (0, _), (1, _)]) (pc := 40) dX6_lostFeature_40 rfl (by decide) rfl ?_
        refine xw_iinc (v := nI (k + 1)) (l' := [(4, _), (3, _), (2, _), (0, _), (1, _)]) (pc := 41) dX6_lostFeature_41 1 rfl (nI_add _ 1) (by decide) rfl ?_
        refine xw_goto (pc := 44) 13 dX6_lostFeature_44 rfl ?_
        have h := ih (k + 1) (by omega) (by omega) hq
        first
          | (have e : anyK (fun v => FA (nI f) (nI v)) (k + 1) = true := by simp_all [anyK]
             rw [e] at h; exact h)
          | (have e : anyK (fun v => FA (nI f) (nI v)) (k + 1) = false := by simp_all [anyK]
             rw [e] at h; exact h)
theorem lp1_X6_lostFeature {d : Nat} {g : xG} {m : Nat} {S : xMS} (hM : xMod g m) {rl : Int32} {FA : Int32 → Int32 → Bool} (hFA : ∀ f v : Int32, XM M_X6_fulfilsAll (d + 2) [.ref m, .int rl, .int f, .int v] (xWith g m S) (xOne (some (.int (bI (FA f v)))) (xWith g m S))) : ∀ (j f : Nat), f + j = 6 → XW M_X6_lostFeature (d + 3) 2 [(2, .int (nI f)), (0, .ref m), (1, .int rl)] [] (xWith g m S) (xOne (some (.int (lostK (fun f => anyK (fun v => FA (nI f) (nI v)) 10) j f))) (xWith g m S)) := by
  intro j
  induction j with
  | zero =>
    intro f hf
    refine xw_iload_n (pc := 2) dX6_lostFeature_2 0 rfl ?_
    refine xw_bipush (v := nI 6) (pc := 3) dX6_lostFeature_3 (by decide +kernel) ?_
    refine xw_icmp_ge (pc := 5) 59 dX6_lostFeature_5 rfl (fun hb5 => ?_) (fun hb5 => ?_)
    rotate_left
    · exfalso
      replace hb5 : ¬ (6 ≤ f) := mt (nI_leI (a := 6) (b := f) (by omega) (by omega)).mpr hb5
      omega
    replace hb5 : 6 ≤ f := (nI_leI (a := 6) (b := f) (by omega) (by omega)).mp hb5
    refine xw_iconst (v := -1) (pc := 59) dX6_lostFeature_59 (by decide +kernel) ?_
    refine xw_iret (pc := 60) .int dX6_lostFeature_60 rfl ?_ 
    exact ⟨rfl, rfl⟩
  | succ j ih =>
    intro f hf
    refine xw_iload_n (pc := 2) dX6_lostFeature_2 0 rfl ?_
    refine xw_bipush (v := nI 6) (pc := 3) dX6_lostFeature_3 (by decide +kernel) ?_
    refine xw_icmp_ge (pc := 5) 59 dX6_lostFeature_5 rfl (fun hb5 => ?_) (fun hb5 => ?_)
    · exfalso
      replace hb5 : 6 ≤ f := (nI_leI (a := 6) (b := f) (by omega) (by omega)).mp hb5
      omega
    replace hb5 : ¬ (6 ≤ f) := mt (nI_leI (a := 6) (b := f) (by omega) (by omega)).mpr hb5
    refine xw_iconst (v := nI 0) (pc := 8) dX6_lostFeature_8 rfl ?_
    refine xw_istore_n (l' := [(3, _), (2, _), (0, _), (1, _)]) (pc := 9) dX6_lostFeature_9 rfl (by decide) rfl ?_
    refine xw_iconst (v := nI 0) (pc := 10) dX6_lostFeature_10 rfl ?_
    refine xw_istore (l' := [(4, _), (3, _), (2, _), (0, _), (1, _)]) (pc := 11) dX6_lostFeature_11 (by decide) rfl ?_
    refine lp2_X6_lostFeature hM hFA f 11 0 (by omega) (by omega) ?_
    refine xw_iload_n (pc := 47) dX6_lostFeature_47 1 rfl ?_
    refine xw_if_ne (pc := 48) 53 dX6_lostFeature_48 rfl (fun hb48 => ?_) (fun hb48 => ?_)
    · replace hb48 := bI_n0.mp hb48
      refine xw_iinc (v := nI (f + 1)) (l' := [(2, _), (4, _), (3, _), (0, _), (1, _)]) (pc := 53) dX6_lostFeature_53 2 rfl (nI_add _ 1) (by decide) rfl ?_
      refine xw_goto (pc := 56) 2 dX6_lostFeature_56 rfl ?_
      refine xw_pick (pc := 2) (l' := [(2, _), (0, _), (1, _)]) [0, 3, 4] rfl ?_
      have h := ih (f + 1) (by omega)
      rw [show lostK (fun f => anyK (fun v => FA (nI f) (nI v)) 10) (j + 1) f = lostK (fun f => anyK (fun v => FA (nI f) (nI v)) 10) j (f + 1) from if_neg (by show ¬ anyK _ 10 = false; rw [hb48]; decide)]
      exact h
    · replace hb48 := bI_0.mp hb48
      refine xw_iload_n (pc := 51) dX6_lostFeature_51 2 rfl ?_
      refine xw_iret (pc := 52) .int dX6_lostFeature_52 rfl ?_ 
      exact ⟨by simp [lostK, hb48], rfl⟩
theorem SP_X6_lostFeature {d : Nat} {g : xG} {m : Nat} {S : xMS} (hM : xMod g m) {rl : Int32} {FA : Int32 → Int32 → Bool} (hFA : ∀ f v : Int32, XM M_X6_fulfilsAll (d + 2) [.ref m, .int rl, .int f, .int v] (xWith g m S) (xOne (some (.int (bI (FA f v)))) (xWith g m S))) : XM M_X6_lostFeature (d + 3) [.ref m, .int rl] (xWith g m S) (xOne (some (.int (lostF FA))) (xWith g m S)) := by
  refine xm_of (by decide +kernel) (Nat.le_of_ble_eq_true rfl) ?_
  show XW _ _ 0 [(0, _), (1, _)] [] _ _
  refine xw_iconst (v := nI 0) (pc := 0) dX6_lostFeature_0 rfl ?_
  refine xw_istore_n (l' := [(2, _), (0, _), (1, _)]) (pc := 1) dX6_lostFeature_1 rfl (by decide) rfl ?_
  exact lp1_X6_lostFeature hM hFA 6 0 rfl
def hindT (FA : Int32 → Int32 → Bool) (c : Nat) : Nat × Int32 := if 4 < c then (6, nI 0) else if lostF FA < 0 then (0, lostF FA) else (7, lostF FA)
theorem hindT_le {FA : Int32 → Int32 → Bool} {c : Nat} : (hindT FA c).1 ≤ 7 := by
  unfold hindT
  split
  · exact Nat.le_of_ble_eq_true rfl
  · split <;> exact Nat.le_of_ble_eq_true rfl
/-- the tests' law of a rule; of a new one -/
def FAr (S : xMS) (r t mm : Nat) (f v : Int32) : Bool := allK (tR S r f v) t && allK (tM S f v) mm
def FA0 (S : xMS) (mm : Nat) (f v : Int32) : Bool := allK (tM S f v) mm
theorem FAr_0 {S : xMS} {r t mm j : Nat} {v : Int32} : FAr (mset S 0 j v) r t mm = FAr S r t mm := by
  funext f w
  unfold FAr tR tM
  rw [mset_q (by decide), mset_q (by decide)]
theorem FA0_0 {S : xMS} {mm j : Nat} {v : Int32} : FA0 (mset S 0 j v) mm = FA0 S mm := by
  funext f w
  unfold FA0 tM
  rw [mset_q (by decide)]
theorem SP_X6_hindersTestsR {d : Nat} {g : xG} {m : Nat} {S : xMS} (hM : xMod g m) (r t mm : Nat) (hr : r < 16) (ht : t ≤ 4) (h7 : S 1 (23 + 20 * r + 7) = nI t) (hW : WFsg S r t) (hmm : mm ≤ 60) (h5 : S 0 11 = nI mm) (hWm : WFmo S mm) : XM M_X6_hindersTests (d + 4) [.ref m, .int (nI r)] (xWith g m S) (xOne (some (.int (nI (hindT (FAr S r t mm) (t + mm)).1))) (xWith g m (mset S 0 9 (hindT (FAr S r t mm) (t + mm)).2))) := by
  have e1 : (mset S 0 9 (nI 0)) 1 = S 1 := mset_q (by decide)
  have e5 : (mset S 0 9 (nI 0)) 5 = S 5 := mset_q (by decide)
  have hFA := fun f v => SP_X6_fulfilsAllR (d := d) (S := mset S 0 9 (nI 0)) hM r t mm hr ht (by rw [e1]; exact h7) (by unfold WFsg; rw [e1]; exact hW) hmm (by rw [mset_s, if_neg (by decide)]; exact h5) (by unfold WFmo; rw [e5]; exact hWm) f v
  have e6 : ∀ x y, mset (mset S 0 9 x) 0 9 y = mset S 0 9 y := by intro x y; funext q z; simp only [mset]; split <;> rfl
  refine xm_of (by decide +kernel) (Nat.le_of_ble_eq_true rfl) ?_
  show XW _ _ 0 [(0, _), (1, _)] [] _ _
  refine xw_aload_n (pc := 0) dX6_hindersTests_0 0 rfl ?_
  refine xw_iconst (v := nI 0) (pc := 1) dX6_hindersTests_1 rfl ?_
  refine xm_putI (pc := 2) hM fd_X6_115 (xfin_of (by decide) (by decide +kernel)) dX6_hindersTests_2 ?_
  refine xw_iload_n (pc := 5) dX6_hindersTests_5 1 rfl ?_
  refine xw_if_ge (pc := 6) 13 dX6_hindersTests_6 rfl (fun hb6 => ?_) (fun hb6 => ?_)
  rotate_left
  · exfalso
    replace hb6 : ¬ (0 ≤ r) := mt (nI_leI (a := 0) (b := r) (by omega) (by omega)).mpr hb6
    omega
  replace hb6 : 0 ≤ r := (nI_leI (a := 0) (b := r) (by omega) (by omega)).mp hb6
  refine xw_aload_n (pc := 13) dX6_hindersTests_13 0 rfl ?_
  refine xw_iload_n (pc := 14) dX6_hindersTests_14 1 rfl ?_
  refine xw_bipush (v := nI 7) (pc := 15) dX6_hindersTests_15 (by decide +kernel) ?_
  refine xw_callV (pc := 17) (xr_V (as := [_, _]) ok_X6_of rfl (by decide) q2396 q2398 qs53 (by rw [xtag_with, hM.1]; rfl) (by rw [xtag_with, hM.1]; rfl) dX6_hindersTests_17 rfl rfl (Nat.le_of_ble_eq_true rfl)) (SP_X6_ofN hM r 7 t (by omega) (by rw [e1]; exact h7)) ?_
  refine xw_aload_n (pc := 20) dX6_hindersTests_20 0 rfl ?_
  refine xm_getN (k := mm) (pc := 21) hM fd_X6_145 dX6_hindersTests_21 (by rw [mset_s, if_neg (by decide)]; exact h5) ?_
  refine xn_iadd (pc := 24) dX6_hindersTests_24 ?_
  refine xw_iconst (v := nI 4) (pc := 25) dX6_hindersTests_25 rfl ?_
  refine xw_icmp_le (pc := 26) 32 dX6_hindersTests_26 rfl (fun hb26 => ?_) (fun hb26 => ?_)
  · replace hb26 : (t + mm) ≤ 4 := (nI_leI (a := (t + mm)) (b := 4) (by omega) (by omega)).mp hb26
    refine xw_aload_n (pc := 32) dX6_hindersTests_32 0 rfl ?_
    refine xw_iload_n (pc := 33) dX6_hindersTests_33 1 rfl ?_
    refine xw_callV (pc := 34) (xr_V (as := [_]) ok_X6_lostFeature rfl (by decide) q2465 q2467 qs64 (by rw [xtag_with, hM.1]; rfl) (by rw [xtag_with, hM.1]; rfl) dX6_hindersTests_34 rfl rfl (Nat.le_of_ble_eq_true rfl)) (SP_X6_lostFeature hM (rl := nI r) (FA := FAr (mset S 0 9 (nI 0)) r t mm) hFA) ?_
    refine xw_istore_n (l' := [(2, _), (0, _), (1, _)]) (pc := 37) dX6_hindersTests_37 rfl (by decide) rfl ?_
    refine xw_aload_n (pc := 38) dX6_hindersTests_38 1 rfl ?_
    refine xw_iload_n (pc := 39) dX6_hindersTests_39 0 rfl ?_
    refine xm_putI (pc := 40) hM fd_X6_115 (xfin_of (by decide) (by decide +kernel)) dX6_hindersTests_40 ?_
    refine xw_iload_n (pc := 43) dX6_hindersTests_43 0 rfl ?_
    refine xw_if_ge (pc := 44) 51 dX6_hindersTests_44 rfl (fun hb44 => ?_) (fun hb44 => ?_)
    · refine xw_bipush (v := nI 7) (pc := 51) dX6_hindersTests_51 (by decide +kernel) ?_
      refine xw_iret (pc := 53) .int dX6_hindersTests_53 rfl ?_ 
      have e7 := FAr_0 (S := S) (r := r) (t := t) (mm := mm) (j := 9) (v := nI 0)
      try simp only [e6]
      refine ⟨?_, ?_⟩ <;> unfold hindT <;> (first | rw [if_pos (by omega)] | rw [if_neg (by omega)]) <;> simp_all [FAr, ← Int32.not_lt]
    · refine xw_iconst (v := nI 0) (pc := 47) dX6_hindersTests_47 rfl ?_
      refine xw_goto (pc := 48) 53 dX6_hindersTests_48 rfl ?_
      refine xw_iret (pc := 53) .int dX6_hindersTests_53 rfl ?_ 
      have e7 := FAr_0 (S := S) (r := r) (t := t) (mm := mm) (j := 9) (v := nI 0)
      try simp only [e6]
      refine ⟨?_, ?_⟩ <;> unfold hindT <;> (first | rw [if_pos (by omega)] | rw [if_neg (by omega)]) <;> simp_all [FAr, ← Int32.not_lt]
  · replace hb26 : ¬ ((t + mm) ≤ 4) := mt (nI_leI (a := (t + mm)) (b := 4) (by omega) (by omega)).mpr hb26
    refine xw_bipush (v := nI 6) (pc := 29) dX6_hindersTests_29 (by decide +kernel) ?_
    refine xw_iret (pc := 31) .int dX6_hindersTests_31 rfl ?_ 
    have e7 := FAr_0 (S := S) (r := r) (t := t) (mm := mm) (j := 9) (v := nI 0)
    try simp only [e6]
    refine ⟨?_, ?_⟩ <;> unfold hindT <;> (first | rw [if_pos (by omega)] | rw [if_neg (by omega)]) <;> simp_all [FAr, ← Int32.not_lt]
theorem SP_X6_hindersTests0 {d : Nat} {g : xG} {m : Nat} {S : xMS} (hM : xMod g m) (mm : Nat) (hmm : mm ≤ 60) (h5 : S 0 11 = nI mm) (hWm : WFmo S mm) : XM M_X6_hindersTests (d + 4) [.ref m, .int (-1)] (xWith g m S) (xOne (some (.int (nI (hindT (FA0 S mm) mm).1))) (xWith g m (mset S 0 9 (hindT (FA0 S mm) mm).2))) := by
  have e5 : (mset S 0 9 (nI 0)) 5 = S 5 := mset_q (by decide)
  have hFA := fun f v => SP_X6_fulfilsAll0 (d := d) (S := mset S 0 9 (nI 0)) hM mm hmm (by rw [mset_s, if_neg (by decide)]; exact h5) (by unfold WFmo; rw [e5]; exact hWm) f v
  have e6 : ∀ x y, mset (mset S 0 9 x) 0 9 y = mset S 0 9 y := by intro x y; funext q z; simp only [mset]; split <;> rfl
  refine xm_of (by decide +kernel) (Nat.le_of_ble_eq_true rfl) ?_
  show XW _ _ 0 [(0, _), (1, _)] [] _ _
  refine xw_aload_n (pc := 0) dX6_hindersTests_0 0 rfl ?_
  refine xw_iconst (v := nI 0) (pc := 1) dX6_hindersTests_1 rfl ?_
  refine xm_putI (pc := 2) hM fd_X6_115 (xfin_of (by decide) (by decide +kernel)) dX6_hindersTests_2 ?_
  refine xw_iload_n (pc := 5) dX6_hindersTests_5 1 rfl ?_
  refine xw_if_ge (pc := 6) 13 dX6_hindersTests_6 rfl (fun hb6 => ?_) (fun hb6 => ?_)
  · exfalso
    exact absurd hb6 (by decide)
  refine xw_iconst (v := nI 0) (pc := 9) dX6_hindersTests_9 rfl ?_
  refine xw_goto (pc := 10) 20 dX6_hindersTests_10 rfl ?_
  refine xw_aload_n (pc := 20) dX6_hindersTests_20 0 rfl ?_
  refine xm_getN (k := mm) (pc := 21) hM fd_X6_145 dX6_hindersTests_21 (by rw [mset_s, if_neg (by decide)]; exact h5) ?_
  refine xn_iadd (pc := 24) dX6_hindersTests_24 ?_
  refine xw_iconst (v := nI 4) (pc := 25) dX6_hindersTests_25 rfl ?_
  refine xw_icmp_le (pc := 26) 32 dX6_hindersTests_26 rfl (fun hb26 => ?_) (fun hb26 => ?_)
  · replace hb26 : (0 + mm) ≤ 4 := (nI_leI (a := (0 + mm)) (b := 4) (by omega) (by omega)).mp hb26
    refine xw_aload_n (pc := 32) dX6_hindersTests_32 0 rfl ?_
    refine xw_iload_n (pc := 33) dX6_hindersTests_33 1 rfl ?_
    refine xw_callV (pc := 34) (xr_V (as := [_]) ok_X6_lostFeature rfl (by decide) q2465 q2467 qs64 (by rw [xtag_with, hM.1]; rfl) (by rw [xtag_with, hM.1]; rfl) dX6_hindersTests_34 rfl rfl (Nat.le_of_ble_eq_true rfl)) (SP_X6_lostFeature hM (rl := -1) (FA := FA0 (mset S 0 9 (nI 0)) mm) hFA) ?_
    refine xw_istore_n (l' := [(2, _), (0, _), (1, _)]) (pc := 37) dX6_hindersTests_37 rfl (by decide) rfl ?_
    refine xw_aload_n (pc := 38) dX6_hindersTests_38 1 rfl ?_
    refine xw_iload_n (pc := 39) dX6_hindersTests_39 0 rfl ?_
    refine xm_putI (pc := 40) hM fd_X6_115 (xfin_of (by decide) (by decide +kernel)) dX6_hindersTests_40 ?_
    refine xw_iload_n (pc := 43) dX6_hindersTests_43 0 rfl ?_
    refine xw_if_ge (pc := 44) 51 dX6_hindersTests_44 rfl (fun hb44 => ?_) (fun hb44 => ?_)
    · refine xw_bipush (v := nI 7) (pc := 51) dX6_hindersTests_51 (by decide +kernel) ?_
      refine xw_iret (pc := 53) .int dX6_hindersTests_53 rfl ?_ 
      have e7 := FA0_0 (S := S) (mm := mm) (j := 9) (v := nI 0)
      try simp only [e6]
      refine ⟨?_, ?_⟩ <;> unfold hindT <;> (first | rw [if_pos (by omega)] | rw [if_neg (by omega)]) <;> simp_all [FA0, ← Int32.not_lt]
    · refine xw_iconst (v := nI 0) (pc := 47) dX6_hindersTests_47 rfl ?_
      refine xw_goto (pc := 48) 53 dX6_hindersTests_48 rfl ?_
      refine xw_iret (pc := 53) .int dX6_hindersTests_53 rfl ?_ 
      have e7 := FA0_0 (S := S) (mm := mm) (j := 9) (v := nI 0)
      try simp only [e6]
      refine ⟨?_, ?_⟩ <;> unfold hindT <;> (first | rw [if_pos (by omega)] | rw [if_neg (by omega)]) <;> simp_all [FA0, ← Int32.not_lt]
  · replace hb26 : ¬ ((0 + mm) ≤ 4) := mt (nI_leI (a := (0 + mm)) (b := 4) (by omega) (by omega)).mpr hb26
    refine xw_bipush (v := nI 6) (pc := 29) dX6_hindersTests_29 (by decide +kernel) ?_
    refine xw_iret (pc := 31) .int dX6_hindersTests_31 rfl ?_ 
    have e7 := FA0_0 (S := S) (mm := mm) (j := 9) (v := nI 0)
    try simp only [e6]
    refine ⟨?_, ?_⟩ <;> unfold hindT <;> (first | rw [if_pos (by omega)] | rw [if_neg (by omega)]) <;> simp_all [FA0, ← Int32.not_lt]
def putT (S : xMS) (r t : Nat) : Nat → xMS
  | 0 => S
  | k + 1 => mset (mcpy (putT S r t k) 5 1 (3 * k) (23 + 20 * r + 8 + 3 * (t + k)) 3) 1 (23 + 20 * r + 7) (nI (t + k + 1))
theorem putT_q {S : xMS} {r t k q : Nat} (h : q ≠ 1) : putT S r t k q = S q := by
  induction k with
  | zero => rfl
  | succ k ih => rw [putT, mset_q h, mcpy_q h, ih]
theorem putT_7 {S : xMS} {r t k : Nat} (h7 : S 1 (23 + 20 * r + 7) = nI t) : putT S r t k 1 (23 + 20 * r + 7) = nI (t + k) := by
  cases k with
  | zero => exact h7
  | succ k => rw [putT, mset_s, if_pos rfl]; rfl
theorem lp_X6_putTests {d : Nat} {g : xG} {m : Nat} {S : xMS} (hM : xMod g m) {Q : Option Value ⊕ Nat → xG → Prop} (r t mm : Nat) (hr : r < 16) (ht : t + mm ≤ 4) (h7 : S 1 (23 + 20 * r + 7) = nI t) (h5 : S 0 11 = nI mm) (hq : Q (.inl none) (xWith g m (putT S r t mm))) : ∀ (j k : Nat), mm - k < j → k ≤ mm → XW M_X6_putTests (d + 2) 2 [(2, .int (nI k)), (0, .ref m), (1, .int (nI r))] [] (xWith g m (putT S r t k)) Q := by
  intro j
  induction j with
  | zero => intro r h; omega
  | succ j ih =>
  intro k hj hk
  refine xw_iload_n (pc := 2) dX6_putTests_2 0 rfl ?_
  refine xw_aload_n (pc := 3) dX6_putTests_3 1 rfl ?_
  refine xm_getN (k := mm) (pc := 4) hM fd_X6_145 dX6_putTests_4 (by rw [putT_q (by decide)]; exact h5) ?_
  refine xw_icmp_ge (pc := 7) 66 dX6_putTests_7 rfl (fun hb7 => ?_) (fun hb7 => ?_)
  · replace hb7 : mm ≤ k := (nI_leI (a := mm) (b := k) (by omega) (by omega)).mp hb7
    refine xw_vret (pc := 66) dX6_putTests_66 rfl ?_
    obtain rfl : k = mm := by omega
    exact hq
  · replace hb7 : ¬ (mm ≤ k) := mt (nI_leI (a := mm) (b := k) (by omega) (by omega)).mpr hb7
    refine xw_iload_n (pc := 10) dX6_putTests_10 2 rfl ?_
    refine xw_callV (pc := 11) (xr_S (as := [_]) ok_X6_at rfl (by decide) q2400 q2401 dX6_putTests_11 rfl rfl (Nat.le_of_ble_eq_true rfl)) (SP_X6_at (r)) ?_
    refine xw_bipush (v := nI 8) (pc := 14) dX6_putTests_14 (by decide +kernel) ?_
    refine xn_iadd (pc := 16) dX6_putTests_16 ?_
    refine xw_iconst (v := nI 3) (pc := 17) dX6_putTests_17 rfl ?_
    refine xw_aload_n (pc := 18) dX6_putTests_18 1 rfl ?_
    refine xw_iload_n (pc := 19) dX6_putTests_19 2 rfl ?_
    refine xw_bipush (v := nI 7) (pc := 20) dX6_putTests_20 (by decide +kernel) ?_
    refine xw_callV (pc := 22) (xr_V (as := [_, _]) ok_X6_of rfl (by decide) q2396 q2398 qs53 (by rw [xtag_with, hM.1]; rfl) (by rw [xtag_with, hM.1]; rfl) dX6_putTests_22 rfl rfl (Nat.le_of_ble_eq_true rfl)) (SP_X6_ofN hM r 7 (t + k) (by omega) (putT_7 h7)) ?_
    refine xn_imul (pc := 25) dX6_putTests_25 ?_
    refine xn_iadd (pc := 26) dX6_putTests_26 ?_
    refine xw_istore_n (l' := [(3, _), (2, _), (0, _), (1, _)]) (pc := 27) dX6_putTests_27 rfl (by decide) rfl ?_
    refine xw_aload_n (pc := 28) dX6_putTests_28 2 rfl ?_
    refine xm_get (p := 5) (pc := 29) hM fd_X6_22 dX6_putTests_29 rfl ?_
    refine xw_iconst (v := nI 3) (pc := 32) dX6_putTests_32 rfl ?_
    refine xw_iload_n (pc := 33) dX6_putTests_33 1 rfl ?_
    refine xn_imul (pc := 34) dX6_putTests_34 ?_
    refine xw_aload_n (pc := 35) dX6_putTests_35 2 rfl ?_
    refine xm_get (p := 1) (pc := 36) hM fd_X6_9 dX6_putTests_36 rfl ?_
    refine xw_iload_n (pc := 39) dX6_putTests_39 0 rfl ?_
    refine xw_iconst (v := nI 3) (pc := 40) dX6_putTests_40 rfl ?_
    refine xm_copy (pc := 41) hM dX6_putTests_41 q2371 rfl rfl (by decide) (by omega) (by omega) (Nat.le_of_ble_eq_true rfl) ?_
    refine xw_aload_n (pc := 44) dX6_putTests_44 2 rfl ?_
    refine xm_get (p := 1) (pc := 45) hM fd_X6_9 dX6_putTests_45 rfl ?_
    refine xw_iload_n (pc := 48) dX6_putTests_48 3 rfl ?_
    refine xw_callV (pc := 49) (xr_S (as := [_]) ok_X6_at rfl (by decide) q2400 q2401 dX6_putTests_49 rfl rfl (Nat.le_of_ble_eq_true rfl)) (SP_X6_at (r)) ?_
    refine xw_bipush (v := nI 7) (pc := 52) dX6_putTests_52 (by decide +kernel) ?_
    refine xn_iadd (pc := 54) dX6_putTests_54 ?_
    refine xw_dup2 (pc := 55) dX6_putTests_55 rfl rfl ?_
    refine xm_ialdN (v := t + k) (pc := 56) hM dX6_putTests_56 rfl (by omega) (by rw [mcpy_s]; unfold va_cpy; rw [if_neg (by omega)]; exact putT_7 h7) ?_
    refine xw_iconst (v := nI 1) (pc := 57) dX6_putTests_57 rfl ?_
    refine xn_iadd (pc := 58) dX6_putTests_58 ?_
    refine xm_iast (pc := 59) hM dX6_putTests_59 rfl (by omega) ?_
    refine xw_iinc (v := nI (k + 1)) (l' := [(2, _), (3, _), (0, _), (1, _)]) (pc := 60) dX6_putTests_60 1 rfl (nI_add _ 1) (by decide) rfl ?_
    refine xw_goto (pc := 63) 2 dX6_putTests_63 rfl ?_
    refine xw_pick (pc := 2) (l' := [(2, _), (0, _), (1, _)]) [0, 2, 3] rfl ?_
    exact ih (k + 1) (by omega) (by omega)
theorem SP_X6_putTests {d : Nat} {g : xG} {m : Nat} {S : xMS} (hM : xMod g m) (r t mm : Nat) (hr : r < 16) (ht : t + mm ≤ 4) (h7 : S 1 (23 + 20 * r + 7) = nI t) (h5 : S 0 11 = nI mm) : XM M_X6_putTests (d + 2) [.ref m, .int (nI r)] (xWith g m S) (xOne none (xWith g m (putT S r t mm))) := by
  refine xm_of (by decide +kernel) (Nat.le_of_ble_eq_true rfl) ?_
  show XW _ _ 0 [(0, _), (1, _)] [] _ _
  refine xw_iconst (v := nI 0) (pc := 0) dX6_putTests_0 rfl ?_
  refine xw_istore_n (l' := [(2, _), (0, _), (1, _)]) (pc := 1) dX6_putTests_1 rfl (by decide) rfl ?_
  exact lp_X6_putTests hM r t mm hr ht h7 h5 ⟨rfl, rfl⟩ (mm + 1) 0 (by omega) (by omega)
def opAddT (S : xMS) (r t mm p place : Nat) : Int32 × xMS := if (hindT (FAr S r t mm) (t + mm)).1 = 0 then (nI (t + mm), putT (push (mset S 0 9 (hindT (FAr S r t mm) (t + mm)).2) p) r t mm) else
  (nI 0, mset (mset (mset (mset S 0 9 (hindT (FAr S r t mm) (t + mm)).2) 0 6 (nI place)) 0 7 (nI (hindT (FAr S r t mm) (t + mm)).1)) 0 8 (hindT (FAr S r t mm) (t + mm)).2)
theorem hindT_c {FA : Int32 → Int32 → Bool} {c : Nat} (h : ¬ 0 < (hindT FA c).1) : c ≤ 4 := by
  unfold hindT at h
  split at h
  · exact absurd (by decide) h
  · omega
theorem SP_X6_addTests {d : Nat} {g : xG} {m : Nat} {S : xMS} (hM : xMod g m) (r t mm : Nat) (hr : r < 16) (ht : t ≤ 4) (h7 : S 1 (23 + 20 * r + 7) = nI t) (hW : WFsg S r t) (hmm : mm ≤ 60) (h5 : S 0 11 = nI mm) (hWm : WFmo S mm) (p : Nat) (hp : p ≤ 8) (hpm : S 0 5 = nI p) (place : Nat) : XM M_X6_addTests (d + 5) [.ref m, .int (nI r), .int (nI place)] (xWith g m S) (xOne (some (.int (opAddT S r t mm p place).1)) (xWith g m (opAddT S r t mm p place).2)) := by
  have hle := @hindT_le (FAr S r t mm) (t + mm)
  refine xm_of (by decide +kernel) (Nat.le_of_ble_eq_true rfl) ?_
  show XW _ _ 0 [(0, _), (1, _), (2, _)] [] _ _
  refine xw_aload_n (pc := 0) dX6_addTests_0 0 rfl ?_
  refine xw_iload_n (pc := 1) dX6_addTests_1 1 rfl ?_
  refine xw_callV (pc := 2) (xr_V (as := [_]) ok_X6_hindersTests rfl (by decide) q2461 q2463 qs63 (by rw [xtag_with, hM.1]; rfl) (by rw [xtag_with, hM.1]; rfl) dX6_addTests_2 rfl rfl (Nat.le_of_ble_eq_true rfl)) (SP_X6_hindersTestsR hM r t mm hr ht h7 hW hmm h5 hWm) ?_
  refine xw_istore_n (l' := [(3, _), (0, _), (1, _), (2, _)]) (pc := 5) dX6_addTests_5 rfl (by decide) rfl ?_
  refine xw_iload_n (pc := 6) dX6_addTests_6 0 rfl ?_
  refine xw_if_le (pc := 7) 21 dX6_addTests_7 rfl (fun hb7 => ?_) (fun hb7 => ?_)
  · replace hb7 : (hindT (FAr S r t mm) (t + mm)).1 ≤ 0 := (nI_leI (a := (hindT (FAr S r t mm) (t + mm)).1) (b := 0) (by omega) (by omega)).mp hb7
    refine xw_aload_n (pc := 21) dX6_addTests_21 1 rfl ?_
    refine xw_callU (pc := 22) (xr_V (as := []) ok_X6_keepState rfl (by decide) q2367 q2369 qs48 (by rw [xtag_with, hM.1]; rfl) (by rw [xtag_with, hM.1]; rfl) dX6_addTests_22 rfl rfl (Nat.le_of_ble_eq_true rfl)) (SP_X6_keepState hM) ?_
    refine xw_aload_n (pc := 25) dX6_addTests_25 1 rfl ?_
    refine xw_callU (pc := 26) (xr_V (as := []) ok_X6_change rfl (by decide) q2372 q2374 qs49 (by rw [xtag_with, hM.1]; rfl) (by rw [xtag_with, hM.1]; rfl) dX6_addTests_26 rfl rfl (Nat.le_of_ble_eq_true rfl)) (SP_X6_change hM p hp (by simp [mset_q, mset_s, mcpy_q, mcpy_s, chg_q, chg_0, push_q, push_0]; exact hpm)) ?_
    refine xw_aload_n (pc := 29) dX6_addTests_29 1 rfl ?_
    refine xw_iload_n (pc := 30) dX6_addTests_30 2 rfl ?_
    refine xw_callU (pc := 31) (xr_V (as := [_]) ok_X6_putTests rfl (by decide) q2476 q2478 qs66 (by rw [xtag_with, hM.1]; rfl) (by rw [xtag_with, hM.1]; rfl) dX6_addTests_31 rfl rfl (Nat.le_of_ble_eq_true rfl)) (SP_X6_putTests hM r t mm hr (hindT_c (FA := FAr S r t mm) (by omega)) (by simp [mset_q, mset_s, mcpy_q, mcpy_s, chg_q, chg_0, push_q, push_0]; exact h7) (by simp [mset_q, mset_s, mcpy_q, mcpy_s, chg_q, chg_0, push_q, push_0]; exact h5)) ?_
    refine xw_aload_n (pc := 34) dX6_addTests_34 1 rfl ?_
    refine xw_iload_n (pc := 35) dX6_addTests_35 2 rfl ?_
    refine xw_bipush (v := nI 7) (pc := 36) dX6_addTests_36 (by decide +kernel) ?_
    refine xw_callV (pc := 38) (xr_V (as := [_, _]) ok_X6_of rfl (by decide) q2396 q2398 qs53 (by rw [xtag_with, hM.1]; rfl) (by rw [xtag_with, hM.1]; rfl) dX6_addTests_38 rfl rfl (Nat.le_of_ble_eq_true rfl)) (SP_X6_ofN hM r 7 (t + mm) (by omega) (putT_7 (by simp [mset_q, mset_s, mcpy_q, mcpy_s, chg_q, chg_0, push_q, push_0]; exact h7))) ?_
    refine xw_iret (pc := 41) .int dX6_addTests_41 rfl ?_ 
    refine ⟨?_, ?_⟩ <;> simp_all [opAddT, push, mset]
  · replace hb7 : ¬ ((hindT (FAr S r t mm) (t + mm)).1 ≤ 0) := mt (nI_leI (a := (hindT (FAr S r t mm) (t + mm)).1) (b := 0) (by omega) (by omega)).mpr hb7
    refine xw_aload_n (pc := 10) dX6_addTests_10 1 rfl ?_
    refine xw_iload_n (pc := 11) dX6_addTests_11 3 rfl ?_
    refine xw_iload_n (pc := 12) dX6_addTests_12 0 rfl ?_
    refine xw_aload_n (pc := 13) dX6_addTests_13 1 rfl ?_
    refine xm_getI (pc := 14) hM fd_X6_115 dX6_addTests_14 ?_
    refine xw_callV (pc := 17) (xr_V (as := [_, _, _]) ok_X6_refuse rfl (by decide) q2433 q2435 qs58 (by rw [xtag_with, hM.1]; rfl) (by rw [xtag_with, hM.1]; rfl) dX6_addTests_17 rfl rfl (Nat.le_of_ble_eq_true rfl)) (SP_X6_refuse hM) ?_
    refine xw_iret (pc := 20) .int dX6_addTests_20 rfl ?_ 
    refine ⟨?_, ?_⟩ <;> simp_all [opAddT, push, mset]
