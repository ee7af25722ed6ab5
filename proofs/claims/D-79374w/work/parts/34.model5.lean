/-! MODEL 5: rules, told -/
set_option maxRecDepth 100000
def okTest (f sg dg : Int32) : Bool := inR f (nI 0) (nI 5) && (inR sg (nI 0) (nI 3) && inR dg (nI 0) (nI 9))
/-- the state with one test that's to come -/
def oneT (S : xMS) (f sg dg : Int32) : xMS := mtest (mset (mset S 0 6 (nI 0)) 0 11 (nI 0)) 0 f sg dg
def opTest (S : xMS) (r t p : Nat) (f sg dg : Int32) : Int32 × xMS := if okTest f sg dg = false then (nI 0, mset S 0 6 (nI 2)) else opAddT (oneT S f sg dg) r t 1 p 3
theorem oneT_1 {S : xMS} {f sg dg : Int32} : oneT S f sg dg 1 = S 1 := by
  unfold oneT mtest
  rw [mset_q (by decide), mset_q (by decide), mset_q (by decide), mset_q (by decide), mset_q (by decide), mset_q (by decide)]
theorem oneT_5 {S : xMS} {f sg dg : Int32} : oneT S f sg dg 0 5 = S 0 5 := rfl
theorem oneT_m {S : xMS} {f sg dg : Int32} : oneT S f sg dg 0 11 = nI 1 := rfl
theorem oneT_t {S : xMS} {f sg dg : Int32} : oneT S f sg dg 5 0 = f ∧ oneT S f sg dg 5 1 = sg ∧ oneT S f sg dg 5 2 = dg := ⟨rfl, rfl, rfl⟩
theorem SP_X6_test_F {d : Nat} {g : xG} {m : Nat} {S : xMS} (hM : xMod g m) (rr : Nat) (hr : rr ≤ 16) (h1 : S 1 1 = nI rr) (v : Int32) (hv : ¬ inR v (nI 0) (nI rr - nI 1) = true) (f sg dg : Int32) : XM M_X6_test (d + 2) [.ref m, .int v, .int f, .int sg, .int dg] (xWith g m S) (xOne (some (.int (nI 0))) (xWith g m (mset S 0 6 (nI 1)))) := by
  refine xm_of (by decide +kernel) (Nat.le_of_ble_eq_true rfl) ?_
  show XW _ _ 0 [(0, _), (1, _), (2, _), (3, _), (4, _)] [] _ _
  refine xw_aload_n (pc := 0) dX6_test_0 0 rfl ?_
  refine xw_aload_n (pc := 1) dX6_test_1 0 rfl ?_
  refine xw_iload_n (pc := 2) dX6_test_2 1 rfl ?_
  refine xw_callV (pc := 3) (xr_V (as := [_]) ok_X6_isRule rfl (by decide) q2445 q2447 qs60 (by rw [xtag_with, hM.1]; rfl) (by rw [xtag_with, hM.1]; rfl) dX6_test_3 rfl rfl (Nat.le_of_ble_eq_true rfl)) (SP_X6_isRuleF hM rr h1 (by assumption)) ?_
  refine xw_if_ne (pc := 6) 13 dX6_test_6 rfl (fun hb => absurd hb (by decide)) (fun _ => ?_)
  refine xw_iconst (v := nI 1) (pc := 9) dX6_test_9 rfl ?_
  refine xw_goto (pc := 10) 47 dX6_test_10 rfl ?_
  refine xm_putI (pc := 47) hM fd_X6_62 (xfin_of (by decide) (by decide +kernel)) dX6_test_47 ?_
  refine xw_aload_n (pc := 50) dX6_test_50 0 rfl ?_
  refine xm_getN (k := 1) (pc := 51) hM fd_X6_62 dX6_test_51 (by first | rfl | (simp [mset, mcpy]; done)) ?_
  refine xw_if_le (pc := 54) 59 dX6_test_54 rfl (fun hb => absurd hb (by decide)) (fun _ => ?_)
  refine xw_iconst (v := nI 0) (pc := 57) dX6_test_57 rfl ?_
  refine xw_iret (pc := 58) .int dX6_test_58 rfl ?_ 
  exact ⟨rfl, rfl⟩
theorem SP_X6_test {d : Nat} {g : xG} {m : Nat} {S : xMS} (hM : xMod g m) (rr : Nat) (hr : rr ≤ 16) (h1 : S 1 1 = nI rr) (p : Nat) (hp : p ≤ 8) (hpm : S 0 5 = nI p) (r t : Nat) (hrr : r < rr) (ht : t ≤ 4) (h7 : S 1 (23 + 20 * r + 7) = nI t) (hW : WFsg S r t) (f sg dg : Int32) : XM M_X6_test (d + 6) [.ref m, .int (nI r), .int f, .int sg, .int dg] (xWith g m S) (xOne (some (.int (opTest S r t p f sg dg).1)) (xWith g m (opTest S r t p f sg dg).2)) := by
  by_cases hs : inR sg (nI 0) (nI 3) = true
  · obtain ⟨sk, hsk, rfl⟩ := inR_nat (by decide) hs
    refine xm_of (by decide +kernel) (Nat.le_of_ble_eq_true rfl) ?_
    show XW _ _ 0 [(0, _), (1, _), (2, _), (3, _), (4, _)] [] _ _
    refine xw_aload_n (pc := 0) dX6_test_0 0 rfl ?_
    refine xw_aload_n (pc := 1) dX6_test_1 0 rfl ?_
    refine xw_iload_n (pc := 2) dX6_test_2 1 rfl ?_
    refine xw_callV (pc := 3) (xr_V (as := [_]) ok_X6_isRule rfl (by decide) q2445 q2447 qs60 (by rw [xtag_with, hM.1]; rfl) (by rw [xtag_with, hM.1]; rfl) dX6_test_3 rfl rfl (Nat.le_of_ble_eq_true rfl)) (SP_X6_isRuleK hM r rr hr (by assumption) h1) ?_
    refine xw_if_ne (pc := 6) 13 dX6_test_6 rfl (fun _ => ?_) (fun hb => absurd hb (by decide))
    refine xw_iload_n (pc := 13) dX6_test_13 2 rfl ?_
    refine xw_iconst (v := nI 0) (pc := 14) dX6_test_14 rfl ?_
    refine xw_iconst (v := nI 5) (pc := 15) dX6_test_15 rfl ?_
    refine xw_callV (pc := 16) (xr_S (as := [_, _, _]) ok_X6_in rfl (by decide) q2364 q2365 dX6_test_16 rfl rfl (Nat.le_of_ble_eq_true rfl)) (SP_X6_in) ?_
    refine xw_if_eq (pc := 19) 42 dX6_test_19 rfl (fun hb19 => ?_) (fun hb19 => ?_)
    · replace hb19 := bI_0.mp hb19
      refine xw_iconst (v := nI 2) (pc := 42) dX6_test_42 rfl ?_
      refine xw_goto (pc := 43) 47 dX6_test_43 rfl ?_
      refine xm_putI (pc := 47) hM fd_X6_62 (xfin_of (by decide) (by decide +kernel)) dX6_test_47 ?_
      refine xw_aload_n (pc := 50) dX6_test_50 0 rfl ?_
      refine xm_getN (k := 2) (pc := 51) hM fd_X6_62 dX6_test_51 (by first | rfl | (simp [mset, mcpy]; done)) ?_
      refine xw_if_le (pc := 54) 59 dX6_test_54 rfl (fun hb => absurd hb (by decide)) (fun _ => ?_)
      refine xw_iconst (v := nI 0) (pc := 57) dX6_test_57 rfl ?_
      refine xw_iret (pc := 58) .int dX6_test_58 rfl ?_ 
      refine ⟨?_, ?_⟩ <;> simp_all [opTest, okTest, oneT]
    · replace hb19 := bI_n0.mp hb19
      refine xw_iload_n (pc := 22) dX6_test_22 3 rfl ?_
      refine xw_iconst (v := nI 0) (pc := 23) dX6_test_23 rfl ?_
      refine xw_iconst (v := nI 3) (pc := 24) dX6_test_24 rfl ?_
      refine xw_callV (pc := 25) (xr_S (as := [_, _, _]) ok_X6_in rfl (by decide) q2364 q2365 dX6_test_25 rfl rfl (Nat.le_of_ble_eq_true rfl)) (SP_X6_inT (by assumption)) ?_
      refine xw_if_eq (pc := 28) 42 dX6_test_28 rfl (fun hb => absurd hb (by decide)) (fun _ => ?_)
      refine xw_iload (pc := 31) dX6_test_31 4 rfl ?_
      refine xw_iconst (v := nI 0) (pc := 33) dX6_test_33 rfl ?_
      refine xw_bipush (v := nI 9) (pc := 34) dX6_test_34 (by decide +kernel) ?_
      refine xw_callV (pc := 36) (xr_S (as := [_, _, _]) ok_X6_in rfl (by decide) q2364 q2365 dX6_test_36 rfl rfl (Nat.le_of_ble_eq_true rfl)) (SP_X6_in) ?_
      refine xw_if_ne (pc := 39) 46 dX6_test_39 rfl (fun hb39 => ?_) (fun hb39 => ?_)
      · replace hb39 := bI_n0.mp hb39
        refine xw_iconst (v := nI 0) (pc := 46) dX6_test_46 rfl ?_
        refine xm_putI (pc := 47) hM fd_X6_62 (xfin_of (by decide) (by decide +kernel)) dX6_test_47 ?_
        refine xw_aload_n (pc := 50) dX6_test_50 0 rfl ?_
        refine xm_getN (k := 0) (pc := 51) hM fd_X6_62 dX6_test_51 (by first | rfl | (simp [mset, mcpy]; done)) ?_
        refine xw_if_le (pc := 54) 59 dX6_test_54 rfl (fun _ => ?_) (fun hb => absurd hb (by decide))
        refine xw_aload_n (pc := 59) dX6_test_59 0 rfl ?_
        refine xw_iconst (v := nI 0) (pc := 60) dX6_test_60 rfl ?_
        refine xm_putI (pc := 61) hM fd_X6_145 (xfin_of (by decide) (by decide +kernel)) dX6_test_61 ?_
        refine xw_aload_n (pc := 64) dX6_test_64 0 rfl ?_
        refine xw_iload_n (pc := 65) dX6_test_65 2 rfl ?_
        refine xw_iload_n (pc := 66) dX6_test_66 3 rfl ?_
        refine xw_iload (pc := 67) dX6_test_67 4 rfl ?_
        refine xw_callU (pc := 69) (xr_V (as := [_, _, _]) ok_X6_moreTest rfl (by decide) q2453 q2455 qs61 (by rw [xtag_with, hM.1]; rfl) (by rw [xtag_with, hM.1]; rfl) dX6_test_69 rfl rfl (Nat.le_of_ble_eq_true rfl)) (SP_X6_moreTest hM 0 (by decide) rfl) ?_
        refine xw_aload_n (pc := 72) dX6_test_72 0 rfl ?_
        refine xw_iload_n (pc := 73) dX6_test_73 1 rfl ?_
        refine xw_iconst (v := nI 3) (pc := 74) dX6_test_74 rfl ?_
        refine xw_callV (pc := 75) (xr_V (as := [_, _]) ok_X6_addTests rfl (by decide) q2457 q2459 qs62 (by rw [xtag_with, hM.1]; rfl) (by rw [xtag_with, hM.1]; rfl) dX6_test_75 rfl rfl (Nat.le_of_ble_eq_true rfl)) (SP_X6_addTests hM r t 1 (by omega) ht (by rw [show (mtest (mset (mset S 0 6 (nI 0)) 0 11 (nI 0)) 0 f (nI sk) dg) 1 = S 1 from oneT_1]; exact h7) (fun k hk => by rw [show (mtest (mset (mset S 0 6 (nI 0)) 0 11 (nI 0)) 0 f (nI sk) dg) 1 = S 1 from oneT_1]; exact hW k hk) (by decide) rfl (fun k hk => by obtain rfl := Nat.lt_one_iff.mp hk; exact ⟨by show nI sk = nI (nI sk).toNatClampNeg; rw [nI_clamp (by omega)], by show (nI sk).toNatClampNeg < 4; rw [nI_clamp (by omega)]; omega⟩) p hp (by exact hpm) 3) ?_
        refine xw_iret (pc := 78) .int dX6_test_78 rfl ?_ 
        refine ⟨?_, ?_⟩ <;> simp_all [opTest, okTest, oneT]
      · replace hb39 := bI_0.mp hb39
        refine xw_iconst (v := nI 2) (pc := 42) dX6_test_42 rfl ?_
        refine xw_goto (pc := 43) 47 dX6_test_43 rfl ?_
        refine xm_putI (pc := 47) hM fd_X6_62 (xfin_of (by decide) (by decide +kernel)) dX6_test_47 ?_
        refine xw_aload_n (pc := 50) dX6_test_50 0 rfl ?_
        refine xm_getN (k := 2) (pc := 51) hM fd_X6_62 dX6_test_51 (by first | rfl | (simp [mset, mcpy]; done)) ?_
        refine xw_if_le (pc := 54) 59 dX6_test_54 rfl (fun hb => absurd hb (by decide)) (fun _ => ?_)
        refine xw_iconst (v := nI 0) (pc := 57) dX6_test_57 rfl ?_
        refine xw_iret (pc := 58) .int dX6_test_58 rfl ?_ 
        refine ⟨?_, ?_⟩ <;> simp_all [opTest, okTest, oneT]
  ·
    refine xm_of (by decide +kernel) (Nat.le_of_ble_eq_true rfl) ?_
    show XW _ _ 0 [(0, _), (1, _), (2, _), (3, _), (4, _)] [] _ _
    refine xw_aload_n (pc := 0) dX6_test_0 0 rfl ?_
    refine xw_aload_n (pc := 1) dX6_test_1 0 rfl ?_
    refine xw_iload_n (pc := 2) dX6_test_2 1 rfl ?_
    refine xw_callV (pc := 3) (xr_V (as := [_]) ok_X6_isRule rfl (by decide) q2445 q2447 qs60 (by rw [xtag_with, hM.1]; rfl) (by rw [xtag_with, hM.1]; rfl) dX6_test_3 rfl rfl (Nat.le_of_ble_eq_true rfl)) (SP_X6_isRuleK hM r rr hr (by assumption) h1) ?_
    refine xw_if_ne (pc := 6) 13 dX6_test_6 rfl (fun _ => ?_) (fun hb => absurd hb (by decide))
    refine xw_iload_n (pc := 13) dX6_test_13 2 rfl ?_
    refine xw_iconst (v := nI 0) (pc := 14) dX6_test_14 rfl ?_
    refine xw_iconst (v := nI 5) (pc := 15) dX6_test_15 rfl ?_
    refine xw_callV (pc := 16) (xr_S (as := [_, _, _]) ok_X6_in rfl (by decide) q2364 q2365 dX6_test_16 rfl rfl (Nat.le_of_ble_eq_true rfl)) (SP_X6_in) ?_
    refine xw_if_eq (pc := 19) 42 dX6_test_19 rfl (fun hb19 => ?_) (fun hb19 => ?_)
    · replace hb19 := bI_0.mp hb19
      refine xw_iconst (v := nI 2) (pc := 42) dX6_test_42 rfl ?_
      refine xw_goto (pc := 43) 47 dX6_test_43 rfl ?_
      refine xm_putI (pc := 47) hM fd_X6_62 (xfin_of (by decide) (by decide +kernel)) dX6_test_47 ?_
      refine xw_aload_n (pc := 50) dX6_test_50 0 rfl ?_
      refine xm_getN (k := 2) (pc := 51) hM fd_X6_62 dX6_test_51 (by first | rfl | (simp [mset, mcpy]; done)) ?_
      refine xw_if_le (pc := 54) 59 dX6_test_54 rfl (fun hb => absurd hb (by decide)) (fun _ => ?_)
      refine xw_iconst (v := nI 0) (pc := 57) dX6_test_57 rfl ?_
      refine xw_iret (pc := 58) .int dX6_test_58 rfl ?_ 
      refine ⟨?_, ?_⟩ <;> simp_all [opTest, okTest]
    · replace hb19 := bI_n0.mp hb19
      refine xw_iload_n (pc := 22) dX6_test_22 3 rfl ?_
      refine xw_iconst (v := nI 0) (pc := 23) dX6_test_23 rfl ?_
      refine xw_iconst (v := nI 3) (pc := 24) dX6_test_24 rfl ?_
      refine xw_callV (pc := 25) (xr_S (as := [_, _, _]) ok_X6_in rfl (by decide) q2364 q2365 dX6_test_25 rfl rfl (Nat.le_of_ble_eq_true rfl)) (SP_X6_inF (by assumption)) ?_
      refine xw_if_eq (pc := 28) 42 dX6_test_28 rfl (fun _ => ?_) (fun hb => absurd hb (by decide))
      refine xw_iconst (v := nI 2) (pc := 42) dX6_test_42 rfl ?_
      refine xw_goto (pc := 43) 47 dX6_test_43 rfl ?_
      refine xm_putI (pc := 47) hM fd_X6_62 (xfin_of (by decide) (by decide +kernel)) dX6_test_47 ?_
      refine xw_aload_n (pc := 50) dX6_test_50 0 rfl ?_
      refine xm_getN (k := 2) (pc := 51) hM fd_X6_62 dX6_test_51 (by first | rfl | (simp [mset, mcpy]; done)) ?_
      refine xw_if_le (pc := 54) 59 dX6_test_54 rfl (fun hb => absurd hb (by decide)) (fun _ => ?_)
      refine xw_iconst (v := nI 0) (pc := 57) dX6_test_57 rfl ?_
      refine xw_iret (pc := 58) .int dX6_test_58 rfl ?_ 
      refine ⟨?_, ?_⟩ <;> simp_all [opTest, okTest]
def opFactor (S : xMS) (r p : Nat) (v : Int32) : Int32 × xMS := if inR v (nI 0) (nI 1000) = false then (nI 0, mset S 0 6 (nI 2)) else (S 1 (23 + 20 * r + 6), mset (push (mset S 0 6 (nI 0)) p) 1 (23 + 20 * r + 6) v)
def opEnd (S : xMS) (r p : Nat) (v : Int32) : Int32 × xMS := if inR v (nI 0) (nI 999) = false then (nI 0, mset S 0 6 (nI 2)) else
  if v < S 1 (23 + 20 * r + 3) then (nI 0, mset (mset (mset (mset S 0 6 (nI 0)) 0 6 (nI 3)) 0 7 (nI 3)) 0 8 (S 1 (23 + 20 * r + 3))) else
  if S 1 (23 + 20 * r + 4) < v then (nI 0, mset (mset (mset (mset S 0 6 (nI 0)) 0 6 (nI 3)) 0 7 (nI 8)) 0 8 (S 1 (23 + 20 * r + 4))) else
  (S 1 (23 + 20 * r + 4), mset (push (mset S 0 6 (nI 0)) p) 1 (23 + 20 * r + 4) v)
theorem SP_X6_setFactor_F {d : Nat} {g : xG} {m : Nat} {S : xMS} (hM : xMod g m) (rr : Nat) (hr : rr ≤ 16) (h1 : S 1 1 = nI rr) (v : Int32) (hv : ¬ inR v (nI 0) (nI rr - nI 1) = true) (e : Int32) : XM M_X6_setFactor (d + 2) [.ref m, .int v, .int e] (xWith g m S) (xOne (some (.int (nI 0))) (xWith g m (mset S 0 6 (nI 1)))) := by
  refine xm_of (by decide +kernel) (Nat.le_of_ble_eq_true rfl) ?_
  show XW _ _ 0 [(0, _), (1, _), (2, _)] [] _ _
  refine xw_aload_n (pc := 0) dX6_setFactor_0 0 rfl ?_
  refine xw_aload_n (pc := 1) dX6_setFactor_1 0 rfl ?_
  refine xw_iload_n (pc := 2) dX6_setFactor_2 1 rfl ?_
  refine xw_callV (pc := 3) (xr_V (as := [_]) ok_X6_isRule rfl (by decide) q2445 q2447 qs60 (by rw [xtag_with, hM.1]; rfl) (by rw [xtag_with, hM.1]; rfl) dX6_setFactor_3 rfl rfl (Nat.le_of_ble_eq_true rfl)) (SP_X6_isRuleF hM rr h1 (by assumption)) ?_
  refine xw_if_ne (pc := 6) 13 dX6_setFactor_6 rfl (fun hb => absurd hb (by decide)) (fun _ => ?_)
  refine xw_iconst (v := nI 1) (pc := 9) dX6_setFactor_9 rfl ?_
  refine xw_goto (pc := 10) 29 dX6_setFactor_10 rfl ?_
  refine xm_putI (pc := 29) hM fd_X6_62 (xfin_of (by decide) (by decide +kernel)) dX6_setFactor_29 ?_
  refine xw_aload_n (pc := 32) dX6_setFactor_32 0 rfl ?_
  refine xm_getN (k := 1) (pc := 33) hM fd_X6_62 dX6_setFactor_33 (by first | rfl | (simp [mset, mcpy]; done)) ?_
  refine xw_if_le (pc := 36) 41 dX6_setFactor_36 rfl (fun hb => absurd hb (by decide)) (fun _ => ?_)
  refine xw_iconst (v := nI 0) (pc := 39) dX6_setFactor_39 rfl ?_
  refine xw_iret (pc := 40) .int dX6_setFactor_40 rfl ?_ 
  exact ⟨rfl, rfl⟩
theorem SP_X6_setFactor {d : Nat} {g : xG} {m : Nat} {S : xMS} (hM : xMod g m) (rr : Nat) (hr : rr ≤ 16) (h1 : S 1 1 = nI rr) (p : Nat) (hp : p ≤ 8) (hpm : S 0 5 = nI p) (r : Nat) (hrr : r < rr) (e : Int32) : XM M_X6_setFactor (d + 2) [.ref m, .int (nI r), .int e] (xWith g m S) (xOne (some (.int (opFactor S r p e).1)) (xWith g m (opFactor S r p e).2)) := by
  refine xm_of (by decide +kernel) (Nat.le_of_ble_eq_true rfl) ?_
  show XW _ _ 0 [(0, _), (1, _), (2, _)] [] _ _
  refine xw_aload_n (pc := 0) dX6_setFactor_0 0 rfl ?_
  refine xw_aload_n (pc := 1) dX6_setFactor_1 0 rfl ?_
  refine xw_iload_n (pc := 2) dX6_setFactor_2 1 rfl ?_
  refine xw_callV (pc := 3) (xr_V (as := [_]) ok_X6_isRule rfl (by decide) q2445 q2447 qs60 (by rw [xtag_with, hM.1]; rfl) (by rw [xtag_with, hM.1]; rfl) dX6_setFactor_3 rfl rfl (Nat.le_of_ble_eq_true rfl)) (SP_X6_isRuleK hM r rr hr (by assumption) h1) ?_
  refine xw_if_ne (pc := 6) 13 dX6_setFactor_6 rfl (fun _ => ?_) (fun hb => absurd hb (by decide))
  refine xw_iload_n (pc := 13) dX6_setFactor_13 2 rfl ?_
  refine xw_iconst (v := nI 0) (pc := 14) dX6_setFactor_14 rfl ?_
  refine xw_sipush (v := nI 1000) (pc := 15) dX6_setFactor_15 (by decide +kernel) ?_
  refine xw_callV (pc := 18) (xr_S (as := [_, _, _]) ok_X6_in rfl (by decide) q2364 q2365 dX6_setFactor_18 rfl rfl (Nat.le_of_ble_eq_true rfl)) (SP_X6_in) ?_
  refine xw_if_ne (pc := 21) 28 dX6_setFactor_21 rfl (fun hb21 => ?_) (fun hb21 => ?_)
  · replace hb21 := bI_n0.mp hb21
    refine xw_iconst (v := nI 0) (pc := 28) dX6_setFactor_28 rfl ?_
    refine xm_putI (pc := 29) hM fd_X6_62 (xfin_of (by decide) (by decide +kernel)) dX6_setFactor_29 ?_
    refine xw_aload_n (pc := 32) dX6_setFactor_32 0 rfl ?_
    refine xm_getN (k := 0) (pc := 33) hM fd_X6_62 dX6_setFactor_33 (by first | rfl | (simp [mset, mcpy]; done)) ?_
    refine xw_if_le (pc := 36) 41 dX6_setFactor_36 rfl (fun _ => ?_) (fun hb => absurd hb (by decide))
    refine xw_aload_n (pc := 41) dX6_setFactor_41 0 rfl ?_
    refine xw_callU (pc := 42) (xr_V (as := []) ok_X6_keepState rfl (by decide) q2367 q2369 qs48 (by rw [xtag_with, hM.1]; rfl) (by rw [xtag_with, hM.1]; rfl) dX6_setFactor_42 rfl rfl (Nat.le_of_ble_eq_true rfl)) (SP_X6_keepState hM) ?_
    refine xw_aload_n (pc := 45) dX6_setFactor_45 0 rfl ?_
    refine xw_callU (pc := 46) (xr_V (as := []) ok_X6_change rfl (by decide) q2372 q2374 qs49 (by rw [xtag_with, hM.1]; rfl) (by rw [xtag_with, hM.1]; rfl) dX6_setFactor_46 rfl rfl (Nat.le_of_ble_eq_true rfl)) (SP_X6_change hM p hp (by simp [mset_q, mset_s, mcpy_q, mcpy_s, chg_q, chg_0, push_q, push_0]; exact hpm)) ?_
    refine xw_aload_n (pc := 49) dX6_setFactor_49 0 rfl ?_
    refine xw_iload_n (pc := 50) dX6_setFactor_50 1 rfl ?_
    refine xw_bipush (v := nI 6) (pc := 51) dX6_setFactor_51 (by decide +kernel) ?_
    refine xw_callV (pc := 53) (xr_V (as := [_, _]) ok_X6_of rfl (by decide) q2396 q2398 qs53 (by rw [xtag_with, hM.1]; rfl) (by rw [xtag_with, hM.1]; rfl) dX6_setFactor_53 rfl rfl (Nat.le_of_ble_eq_true rfl)) (SP_X6_of hM (r) (6) (by omega)) ?_
    refine xw_istore_n (l' := [(3, _), (0, _), (1, _), (2, _)]) (pc := 56) dX6_setFactor_56 rfl (by decide) rfl ?_
    refine xw_aload_n (pc := 57) dX6_setFactor_57 1 rfl ?_
    refine xm_get (p := 1) (pc := 58) hM fd_X6_9 dX6_setFactor_58 rfl ?_
    refine xw_iload_n (pc := 61) dX6_setFactor_61 2 rfl ?_
    refine xw_callV (pc := 62) (xr_S (as := [_]) ok_X6_at rfl (by decide) q2400 q2401 dX6_setFactor_62 rfl rfl (Nat.le_of_ble_eq_true rfl)) (SP_X6_at (r)) ?_
    refine xw_bipush (v := nI 6) (pc := 65) dX6_setFactor_65 (by decide +kernel) ?_
    refine xn_iadd (pc := 67) dX6_setFactor_67 ?_
    refine xw_iload_n (pc := 68) dX6_setFactor_68 3 rfl ?_
    refine xm_iast (pc := 69) hM dX6_setFactor_69 rfl (by omega) ?_
    refine xw_iload_n (pc := 70) dX6_setFactor_70 0 rfl ?_
    refine xw_iret (pc := 71) .int dX6_setFactor_71 rfl ?_ 
    refine ⟨?_, ?_⟩ <;> simp_all [opFactor, push, mset_q, mset_s, mcpy_q, mcpy_s, chg_q, chg_0, push_q, push_0]
  · replace hb21 := bI_0.mp hb21
    refine xw_iconst (v := nI 2) (pc := 24) dX6_setFactor_24 rfl ?_
    refine xw_goto (pc := 25) 29 dX6_setFactor_25 rfl ?_
    refine xm_putI (pc := 29) hM fd_X6_62 (xfin_of (by decide) (by decide +kernel)) dX6_setFactor_29 ?_
    refine xw_aload_n (pc := 32) dX6_setFactor_32 0 rfl ?_
    refine xm_getN (k := 2) (pc := 33) hM fd_X6_62 dX6_setFactor_33 (by first | rfl | (simp [mset, mcpy]; done)) ?_
    refine xw_if_le (pc := 36) 41 dX6_setFactor_36 rfl (fun hb => absurd hb (by decide)) (fun _ => ?_)
    refine xw_iconst (v := nI 0) (pc := 39) dX6_setFactor_39 rfl ?_
    refine xw_iret (pc := 40) .int dX6_setFactor_40 rfl ?_ 
    refine ⟨?_, ?_⟩ <;> simp_all [opFactor, push, mset_q, mset_s, mcpy_q, mcpy_s, chg_q, chg_0, push_q, push_0]
theorem SP_X6_end_F {d : Nat} {g : xG} {m : Nat} {S : xMS} (hM : xMod g m) (rr : Nat) (hr : rr ≤ 16) (h1 : S 1 1 = nI rr) (v : Int32) (hv : ¬ inR v (nI 0) (nI rr - nI 1) = true) (e : Int32) : XM M_X6_end (d + 2) [.ref m, .int v, .int e] (xWith g m S) (xOne (some (.int (nI 0))) (xWith g m (mset S 0 6 (nI 1)))) := by
  refine xm_of (by decide +kernel) (Nat.le_of_ble_eq_true rfl) ?_
  show XW _ _ 0 [(0, _), (1, _), (2, _)] [] _ _
  refine xw_aload_n (pc := 0) dX6_end_0 0 rfl ?_
  refine xw_aload_n (pc := 1) dX6_end_1 0 rfl ?_
  refine xw_iload_n (pc := 2) dX6_end_2 1 rfl ?_
  refine xw_callV (pc := 3) (xr_V (as := [_]) ok_X6_isRule rfl (by decide) q2445 q2447 qs60 (by rw [xtag_with, hM.1]; rfl) (by rw [xtag_with, hM.1]; rfl) dX6_end_3 rfl rfl (Nat.le_of_ble_eq_true rfl)) (SP_X6_isRuleF hM rr h1 (by assumption)) ?_
  refine xw_if_ne (pc := 6) 13 dX6_end_6 rfl (fun hb => absurd hb (by decide)) (fun _ => ?_)
  refine xw_iconst (v := nI 1) (pc := 9) dX6_end_9 rfl ?_
  refine xw_goto (pc := 10) 25 dX6_end_10 rfl ?_
  refine xm_putI (pc := 25) hM fd_X6_62 (xfin_of (by decide) (by decide +kernel)) dX6_end_25 ?_
  refine xw_aload_n (pc := 28) dX6_end_28 0 rfl ?_
  refine xm_getN (k := 1) (pc := 29) hM fd_X6_62 dX6_end_29 (by first | rfl | (simp [mset, mcpy]; done)) ?_
  refine xw_if_le (pc := 32) 37 dX6_end_32 rfl (fun hb => absurd hb (by decide)) (fun _ => ?_)
  refine xw_iconst (v := nI 0) (pc := 35) dX6_end_35 rfl ?_
  refine xw_iret (pc := 36) .int dX6_end_36 rfl ?_ 
  exact ⟨rfl, rfl⟩
theorem SP_X6_end {d : Nat} {g : xG} {m : Nat} {S : xMS} (hM : xMod g m) (rr : Nat) (hr : rr ≤ 16) (h1 : S 1 1 = nI rr) (p : Nat) (hp : p ≤ 8) (hpm : S 0 5 = nI p) (r : Nat) (hrr : r < rr) (e : Int32) : XM M_X6_end (d + 2) [.ref m, .int (nI r), .int e] (xWith g m S) (xOne (some (.int (opEnd S r p e).1)) (xWith g m (opEnd S r p e).2)) := by
  have e1 : (mset S 0 6 (nI 0)) 1 = S 1 := mset_q (by decide)
  refine xm_of (by decide +kernel) (Nat.le_of_ble_eq_true rfl) ?_
  show XW _ _ 0 [(0, _), (1, _), (2, _)] [] _ _
  refine xw_aload_n (pc := 0) dX6_end_0 0 rfl ?_
  refine xw_aload_n (pc := 1) dX6_end_1 0 rfl ?_
  refine xw_iload_n (pc := 2) dX6_end_2 1 rfl ?_
  refine xw_callV (pc := 3) (xr_V (as := [_]) ok_X6_isRule rfl (by decide) q2445 q2447 qs60 (by rw [xtag_with, hM.1]; rfl) (by rw [xtag_with, hM.1]; rfl) dX6_end_3 rfl rfl (Nat.le_of_ble_eq_true rfl)) (SP_X6_isRuleK hM r rr hr (by assumption) h1) ?_
  refine xw_if_ne (pc := 6) 13 dX6_end_6 rfl (fun _ => ?_) (fun hb => absurd hb (by decide))
  refine xw_iload_n (pc := 13) dX6_end_13 2 rfl ?_
  refine xw_callV (pc := 14) (xr_S (as := [_]) ok_X6_isDay rfl (by decide) q2418 q2419 dX6_end_14 rfl rfl (Nat.le_of_ble_eq_true rfl)) (SP_X6_isDay) ?_
  refine xw_if_ne (pc := 17) 24 dX6_end_17 rfl (fun hb17 => ?_) (fun hb17 => ?_)
  · replace hb17 := bI_n0.mp hb17
    refine xw_iconst (v := nI 0) (pc := 24) dX6_end_24 rfl ?_
    refine xm_putI (pc := 25) hM fd_X6_62 (xfin_of (by decide) (by decide +kernel)) dX6_end_25 ?_
    refine xw_aload_n (pc := 28) dX6_end_28 0 rfl ?_
    refine xm_getN (k := 0) (pc := 29) hM fd_X6_62 dX6_end_29 (by first | rfl | (simp [mset, mcpy]; done)) ?_
    refine xw_if_le (pc := 32) 37 dX6_end_32 rfl (fun _ => ?_) (fun hb => absurd hb (by decide))
    refine xw_aload_n (pc := 37) dX6_end_37 0 rfl ?_
    refine xw_iload_n (pc := 38) dX6_end_38 1 rfl ?_
    refine xw_iconst (v := nI 4) (pc := 39) dX6_end_39 rfl ?_
    refine xw_callV (pc := 40) (xr_V (as := [_, _]) ok_X6_of rfl (by decide) q2396 q2398 qs53 (by rw [xtag_with, hM.1]; rfl) (by rw [xtag_with, hM.1]; rfl) dX6_end_40 rfl rfl (Nat.le_of_ble_eq_true rfl)) (SP_X6_of hM (r) (4) (by omega)) ?_
    refine xw_istore_n (l' := [(3, _), (0, _), (1, _), (2, _)]) (pc := 43) dX6_end_43 rfl (by decide) rfl ?_
    refine xw_aload_n (pc := 44) dX6_end_44 1 rfl ?_
    refine xw_iload_n (pc := 45) dX6_end_45 2 rfl ?_
    refine xw_iconst (v := nI 3) (pc := 46) dX6_end_46 rfl ?_
    refine xw_callV (pc := 47) (xr_V (as := [_, _]) ok_X6_of rfl (by decide) q2396 q2398 qs53 (by rw [xtag_with, hM.1]; rfl) (by rw [xtag_with, hM.1]; rfl) dX6_end_47 rfl rfl (Nat.le_of_ble_eq_true rfl)) (SP_X6_of hM (r) (3) (by omega)) ?_
    refine xw_iload_n (pc := 50) dX6_end_50 3 rfl ?_
    refine xw_icmp_le (pc := 51) 67 dX6_end_51 rfl (fun hb51 => ?_) (fun hb51 => ?_)
    · refine xw_iload_n (pc := 67) dX6_end_67 0 rfl ?_
      refine xw_iload_n (pc := 68) dX6_end_68 3 rfl ?_
      refine xw_icmp_ge (pc := 69) 81 dX6_end_69 rfl (fun hb69 => ?_) (fun hb69 => ?_)
      · refine xw_aload_n (pc := 81) dX6_end_81 1 rfl ?_
        refine xw_callU (pc := 82) (xr_V (as := []) ok_X6_keepState rfl (by decide) q2367 q2369 qs48 (by rw [xtag_with, hM.1]; rfl) (by rw [xtag_with, hM.1]; rfl) dX6_end_82 rfl rfl (Nat.le_of_ble_eq_true rfl)) (SP_X6_keepState hM) ?_
        refine xw_aload_n (pc := 85) dX6_end_85 1 rfl ?_
        refine xw_callU (pc := 86) (xr_V (as := []) ok_X6_change rfl (by decide) q2372 q2374 qs49 (by rw [xtag_with, hM.1]; rfl) (by rw [xtag_with, hM.1]; rfl) dX6_end_86 rfl rfl (Nat.le_of_ble_eq_true rfl)) (SP_X6_change hM p hp (by simp [mset_q, mset_s, mcpy_q, mcpy_s, chg_q, chg_0, push_q, push_0]; exact hpm)) ?_
        refine xw_aload_n (pc := 89) dX6_end_89 1 rfl ?_
        refine xm_get (p := 1) (pc := 90) hM fd_X6_9 dX6_end_90 rfl ?_
        refine xw_iload_n (pc := 93) dX6_end_93 2 rfl ?_
        refine xw_callV (pc := 94) (xr_S (as := [_]) ok_X6_at rfl (by decide) q2400 q2401 dX6_end_94 rfl rfl (Nat.le_of_ble_eq_true rfl)) (SP_X6_at (r)) ?_
        refine xw_iconst (v := nI 4) (pc := 97) dX6_end_97 rfl ?_
        refine xn_iadd (pc := 98) dX6_end_98 ?_
        refine xw_iload_n (pc := 99) dX6_end_99 3 rfl ?_
        refine xm_iast (pc := 100) hM dX6_end_100 rfl (by omega) ?_
        refine xw_iload_n (pc := 101) dX6_end_101 0 rfl ?_
        refine xw_iret (pc := 102) .int dX6_end_102 rfl ?_ 
        simp only [e1] at *
        refine ⟨?_, ?_⟩ <;> simp_all [opEnd, push, ← Int32.not_lt]
      · refine xw_aload_n (pc := 72) dX6_end_72 1 rfl ?_
        refine xw_iconst (v := nI 3) (pc := 73) dX6_end_73 rfl ?_
        refine xw_bipush (v := nI 8) (pc := 74) dX6_end_74 (by decide +kernel) ?_
        refine xw_iload_n (pc := 76) dX6_end_76 0 rfl ?_
        refine xw_callV (pc := 77) (xr_V (as := [_, _, _]) ok_X6_refuse rfl (by decide) q2433 q2435 qs58 (by rw [xtag_with, hM.1]; rfl) (by rw [xtag_with, hM.1]; rfl) dX6_end_77 rfl rfl (Nat.le_of_ble_eq_true rfl)) (SP_X6_refuse hM) ?_
        refine xw_iret (pc := 80) .int dX6_end_80 rfl ?_ 
        simp only [e1] at *
        refine ⟨?_, ?_⟩ <;> simp_all [opEnd, push, ← Int32.not_lt]
    · refine xw_aload_n (pc := 54) dX6_end_54 1 rfl ?_
      refine xw_iconst (v := nI 3) (pc := 55) dX6_end_55 rfl ?_
      refine xw_iconst (v := nI 3) (pc := 56) dX6_end_56 rfl ?_
      refine xw_aload_n (pc := 57) dX6_end_57 1 rfl ?_
      refine xw_iload_n (pc := 58) dX6_end_58 2 rfl ?_
      refine xw_iconst (v := nI 3) (pc := 59) dX6_end_59 rfl ?_
      refine xw_callV (pc := 60) (xr_V (as := [_, _]) ok_X6_of rfl (by decide) q2396 q2398 qs53 (by rw [xtag_with, hM.1]; rfl) (by rw [xtag_with, hM.1]; rfl) dX6_end_60 rfl rfl (Nat.le_of_ble_eq_true rfl)) (SP_X6_of hM (r) (3) (by omega)) ?_
      refine xw_callV (pc := 63) (xr_V (as := [_, _, _]) ok_X6_refuse rfl (by decide) q2433 q2435 qs58 (by rw [xtag_with, hM.1]; rfl) (by rw [xtag_with, hM.1]; rfl) dX6_end_63 rfl rfl (Nat.le_of_ble_eq_true rfl)) (SP_X6_refuse hM) ?_
      refine xw_iret (pc := 66) .int dX6_end_66 rfl ?_ 
      simp only [e1] at *
      refine ⟨?_, ?_⟩ <;> simp_all [opEnd, push, ← Int32.not_lt]
  · replace hb17 := bI_0.mp hb17
    refine xw_iconst (v := nI 2) (pc := 20) dX6_end_20 rfl ?_
    refine xw_goto (pc := 21) 25 dX6_end_21 rfl ?_
    refine xm_putI (pc := 25) hM fd_X6_62 (xfin_of (by decide) (by decide +kernel)) dX6_end_25 ?_
    refine xw_aload_n (pc := 28) dX6_end_28 0 rfl ?_
    refine xm_getN (k := 2) (pc := 29) hM fd_X6_62 dX6_end_29 (by first | rfl | (simp [mset, mcpy]; done)) ?_
    refine xw_if_le (pc := 32) 37 dX6_end_32 rfl (fun hb => absurd hb (by decide)) (fun _ => ?_)
    refine xw_iconst (v := nI 0) (pc := 35) dX6_end_35 rfl ?_
    refine xw_iret (pc := 36) .int dX6_end_36 rfl ?_ 
    simp only [e1] at *
    refine ⟨?_, ?_⟩ <;> simp_all [opEnd, push, ← Int32.not_lt]
def isPar (S : xMS) (k r : Nat) : Bool := decide (S 1 (23 + 20 * r + 5) = nI k)
def opRuleOf (S : xMS) (rr r w : Nat) : Int32 := if w = 6 then nI (rdep (S 1) r) else if w = 7 then S 1 (23 + 20 * r + 7) else if w = 8 then nI (cntB (isPar S r) rr) else if w = 9 then S 1 (23 + 20 * r + 6) else S 1 (23 + 20 * r + w)
theorem lp_X6_ruleOf {d : Nat} {g : xG} {m : Nat} {S : xMS} (hM : xMod g m) (rr k : Nat) (hr : rr ≤ 16) (hk : k < rr) (h1 : S 1 1 = nI rr) {a : Int32} : ∀ (j r : Nat), rr - r < j → r ≤ rr → XW M_X6_ruleOf (d + 2) 91 [(4, .int (nI r)), (3, .int (nI (cntB (isPar S k) r))), (0, .ref m), (1, .int (nI k)), (2, .int a)] [] (xWith g m S) (xOne (some (.int (nI (cntB (isPar S k) rr)))) (xWith g m S)) := by
  intro j
  induction j with
  | zero => intro r h; omega
  | succ j ih =>
  intro r hj hrr
  have hcl := cntB_le (isPar S k) r
  refine xw_iload (pc := 91) dX6_ruleOf_91 0 rfl ?_
  refine xw_aload_n (pc := 93) dX6_ruleOf_93 2 rfl ?_
  refine xm_get (p := 1) (pc := 94) hM fd_X6_9 dX6_ruleOf_94 rfl ?_
  refine xw_iconst (v := nI 1) (pc := 97) dX6_ruleOf_97 rfl ?_
  refine xm_ialdN (v := rr) (pc := 98) hM dX6_ruleOf_98 rfl (by omega) (by exact h1) ?_
  refine xw_icmp_ge (pc := 99) 127 dX6_ruleOf_99 rfl (fun hb99 => ?_) (fun hb99 => ?_)
  · replace hb99 : rr ≤ r := (nI_leI (a := rr) (b := r) (by omega) (by omega)).mp hb99
    refine xw_iload_n (pc := 127) dX6_ruleOf_127 1 rfl ?_
    refine xw_iret (pc := 128) .int dX6_ruleOf_128 rfl ?_ 
    obtain rfl : r = rr := by omega
    exact ⟨rfl, rfl⟩
  · replace hb99 : ¬ (rr ≤ r) := mt (nI_leI (a := rr) (b := r) (by omega) (by omega)).mpr hb99
    refine xw_iload_n (pc := 102) dX6_ruleOf_102 1 rfl ?_
    refine xw_aload_n (pc := 103) dX6_ruleOf_103 2 rfl ?_
    refine xw_iload (pc := 104) dX6_ruleOf_104 0 rfl ?_
    refine xw_iconst (v := nI 5) (pc := 106) dX6_ruleOf_106 rfl ?_
    refine xw_callV (pc := 107) (xr_V (as := [_, _]) ok_X6_of rfl (by decide) q2396 q2398 qs53 (by rw [xtag_with, hM.1]; rfl) (by rw [xtag_with, hM.1]; rfl) dX6_ruleOf_107 rfl rfl (Nat.le_of_ble_eq_true rfl)) (SP_X6_of hM (r) (5) (by omega)) ?_
    refine xw_iload_n (pc := 110) dX6_ruleOf_110 3 rfl ?_
    refine xw_icmp_ne (pc := 111) 118 dX6_ruleOf_111 rfl (fun hb111 => ?_) (fun hb111 => ?_)
    · refine xw_iconst (v := nI 0) (pc := 118) dX6_ruleOf_118 rfl ?_
      refine xn_iadd (pc := 119) dX6_ruleOf_119 ?_
      refine xw_istore_n (l' := [(3, _), (4, _), (0, _), (1, _), (2, _)]) (pc := 120) dX6_ruleOf_120 rfl (by decide) rfl ?_
      refine xw_iinc (v := nI (r + 1)) (l' := [(4, _), (3, _), (0, _), (1, _), (2, _)]) (pc := 121) dX6_ruleOf_121 1 rfl (nI_add _ 1) (by decide) rfl ?_
      refine xw_goto (pc := 124) 91 dX6_ruleOf_124 rfl ?_
      have h := ih (r + 1) (by omega) (by omega)
      first
        | (rw [cntB_f (show isPar S k r = false by simp [isPar, *])] at h; exact h)
        | (rw [cntB_t (show isPar S k r = true by simp [isPar, *])] at h; exact h)
    · refine xw_iconst (v := nI 1) (pc := 114) dX6_ruleOf_114 rfl ?_
      refine xw_goto (pc := 115) 119 dX6_ruleOf_115 rfl ?_
      refine xn_iadd (pc := 119) dX6_ruleOf_119 ?_
      refine xw_istore_n (l' := [(3, _), (4, _), (0, _), (1, _), (2, _)]) (pc := 120) dX6_ruleOf_120 rfl (by decide) rfl ?_
      refine xw_iinc (v := nI (r + 1)) (l' := [(4, _), (3, _), (0, _), (1, _), (2, _)]) (pc := 121) dX6_ruleOf_121 1 rfl (nI_add _ 1) (by decide) rfl ?_
      refine xw_goto (pc := 124) 91 dX6_ruleOf_124 rfl ?_
      have h := ih (r + 1) (by omega) (by omega)
      first
        | (rw [cntB_f (show isPar S k r = false by simp [isPar, *])] at h; exact h)
        | (rw [cntB_t (show isPar S k r = true by simp [isPar, *])] at h; exact h)
theorem SP_X6_ruleOf_F {d : Nat} {g : xG} {m : Nat} {S : xMS} (hM : xMod g m) (rr : Nat) (hr : rr ≤ 16) (h1 : S 1 1 = nI rr) (v : Int32) (hv : ¬ inR v (nI 0) (nI rr - nI 1) = true) (e : Int32) : XM M_X6_ruleOf (d + 2) [.ref m, .int v, .int e] (xWith g m S) (xOne (some (.int (nI 0))) (xWith g m (mset S 0 6 (nI 1)))) := by
  refine xm_of (by decide +kernel) (Nat.le_of_ble_eq_true rfl) ?_
  show XW _ _ 0 [(0, _), (1, _), (2, _)] [] _ _
  refine xw_aload_n (pc := 0) dX6_ruleOf_0 0 rfl ?_
  refine xw_aload_n (pc := 1) dX6_ruleOf_1 0 rfl ?_
  refine xw_iload_n (pc := 2) dX6_ruleOf_2 1 rfl ?_
  refine xw_callV (pc := 3) (xr_V (as := [_]) ok_X6_isRule rfl (by decide) q2445 q2447 qs60 (by rw [xtag_with, hM.1]; rfl) (by rw [xtag_with, hM.1]; rfl) dX6_ruleOf_3 rfl rfl (Nat.le_of_ble_eq_true rfl)) (SP_X6_isRuleF hM rr h1 (by assumption)) ?_
  refine xw_if_ne (pc := 6) 13 dX6_ruleOf_6 rfl (fun hb => absurd hb (by decide)) (fun _ => ?_)
  refine xw_iconst (v := nI 1) (pc := 9) dX6_ruleOf_9 rfl ?_
  refine xw_goto (pc := 10) 28 dX6_ruleOf_10 rfl ?_
  refine xm_putI (pc := 28) hM fd_X6_62 (xfin_of (by decide) (by decide +kernel)) dX6_ruleOf_28 ?_
  refine xw_aload_n (pc := 31) dX6_ruleOf_31 0 rfl ?_
  refine xm_getN (k := 1) (pc := 32) hM fd_X6_62 dX6_ruleOf_32 (by first | rfl | (simp [mset, mcpy]; done)) ?_
  refine xw_if_le (pc := 35) 40 dX6_ruleOf_35 rfl (fun hb => absurd hb (by decide)) (fun _ => ?_)
  refine xw_iconst (v := nI 0) (pc := 38) dX6_ruleOf_38 rfl ?_
  refine xw_iret (pc := 39) .int dX6_ruleOf_39 rfl ?_ 
  exact ⟨rfl, rfl⟩
theorem SP_X6_ruleOf_F2 {d : Nat} {g : xG} {m : Nat} {S : xMS} (hM : xMod g m) (rr : Nat) (hr : rr ≤ 16) (h1 : S 1 1 = nI rr) (r : Nat) (hrr : r < rr) (e : Int32) (he : ¬ inR e (nI 0) (nI 9) = true) : XM M_X6_ruleOf (d + 2) [.ref m, .int (nI r), .int e] (xWith g m S) (xOne (some (.int (nI 0))) (xWith g m (mset S 0 6 (nI 2)))) := by
  refine xm_of (by decide +kernel) (Nat.le_of_ble_eq_true rfl) ?_
  show XW _ _ 0 [(0, _), (1, _), (2, _)] [] _ _
  refine xw_aload_n (pc := 0) dX6_ruleOf_0 0 rfl ?_
  refine xw_aload_n (pc := 1) dX6_ruleOf_1 0 rfl ?_
  refine xw_iload_n (pc := 2) dX6_ruleOf_2 1 rfl ?_
  refine xw_callV (pc := 3) (xr_V (as := [_]) ok_X6_isRule rfl (by decide) q2445 q2447 qs60 (by rw [xtag_with, hM.1]; rfl) (by rw [xtag_with, hM.1]; rfl) dX6_ruleOf_3 rfl rfl (Nat.le_of_ble_eq_true rfl)) (SP_X6_isRuleK hM r rr hr (by assumption) h1) ?_
  refine xw_if_ne (pc := 6) 13 dX6_ruleOf_6 rfl (fun _ => ?_) (fun hb => absurd hb (by decide))
  refine xw_iload_n (pc := 13) dX6_ruleOf_13 2 rfl ?_
  refine xw_iconst (v := nI 0) (pc := 14) dX6_ruleOf_14 rfl ?_
  refine xw_bipush (v := nI 9) (pc := 15) dX6_ruleOf_15 (by decide +kernel) ?_
  refine xw_callV (pc := 17) (xr_S (as := [_, _, _]) ok_X6_in rfl (by decide) q2364 q2365 dX6_ruleOf_17 rfl rfl (Nat.le_of_ble_eq_true rfl)) (SP_X6_inF (by assumption)) ?_
  refine xw_if_ne (pc := 20) 27 dX6_ruleOf_20 rfl (fun hb => absurd hb (by decide)) (fun _ => ?_)
  refine xw_iconst (v := nI 2) (pc := 23) dX6_ruleOf_23 rfl ?_
  refine xw_goto (pc := 24) 28 dX6_ruleOf_24 rfl ?_
  refine xm_putI (pc := 28) hM fd_X6_62 (xfin_of (by decide) (by decide +kernel)) dX6_ruleOf_28 ?_
  refine xw_aload_n (pc := 31) dX6_ruleOf_31 0 rfl ?_
  refine xm_getN (k := 2) (pc := 32) hM fd_X6_62 dX6_ruleOf_32 (by first | rfl | (simp [mset, mcpy]; done)) ?_
  refine xw_if_le (pc := 35) 40 dX6_ruleOf_35 rfl (fun hb => absurd hb (by decide)) (fun _ => ?_)
  refine xw_iconst (v := nI 0) (pc := 38) dX6_ruleOf_38 rfl ?_
  refine xw_iret (pc := 39) .int dX6_ruleOf_39 rfl ?_ 
  exact ⟨rfl, rfl⟩
theorem SP_X6_ruleOf {d : Nat} {g : xG} {m : Nat} {S : xMS} (hM : xMod g m) (rr : Nat) (hr : rr ≤ 16) (h1 : S 1 1 = nI rr) (hWp : WFp (S 1) rr) (r w : Nat) (hrr : r < rr) (hw : w ≤ 9) : XM M_X6_ruleOf (d + 3) [.ref m, .int (nI r), .int (nI w)] (xWith g m S) (xOne (some (.int (opRuleOf S rr r w))) (xWith g m (mset S 0 6 (nI 0)))) := by
  have hin := inR_nat' (k := w) (b := 9) (by decide) hw
  have hdl := rdep_le (S 1) r
  have e1 : (mset S 0 6 (nI 0)) 1 = S 1 := mset_q (by decide)
  have e2 : isPar (mset S 0 6 (nI 0)) r = isPar S r := by funext x; unfold isPar; rw [e1]
  by_cases w6 : w = 6
  · subst w6
    refine xm_of (by decide +kernel) (Nat.le_of_ble_eq_true rfl) ?_
    show XW _ _ 0 [(0, _), (1, _), (2, _)] [] _ _
    refine xw_aload_n (pc := 0) dX6_ruleOf_0 0 rfl ?_
    refine xw_aload_n (pc := 1) dX6_ruleOf_1 0 rfl ?_
    refine xw_iload_n (pc := 2) dX6_ruleOf_2 1 rfl ?_
    refine xw_callV (pc := 3) (xr_V (as := [_]) ok_X6_isRule rfl (by decide) q2445 q2447 qs60 (by rw [xtag_with, hM.1]; rfl) (by rw [xtag_with, hM.1]; rfl) dX6_ruleOf_3 rfl rfl (Nat.le_of_ble_eq_true rfl)) (SP_X6_isRuleK hM r rr hr (by assumption) h1) ?_
    refine xw_if_ne (pc := 6) 13 dX6_ruleOf_6 rfl (fun _ => ?_) (fun hb => absurd hb (by decide))
    refine xw_iload_n (pc := 13) dX6_ruleOf_13 2 rfl ?_
    refine xw_iconst (v := nI 0) (pc := 14) dX6_ruleOf_14 rfl ?_
    refine xw_bipush (v := nI 9) (pc := 15) dX6_ruleOf_15 (by decide +kernel) ?_
    refine xw_callV (pc := 17) (xr_S (as := [_, _, _]) ok_X6_in rfl (by decide) q2364 q2365 dX6_ruleOf_17 rfl rfl (Nat.le_of_ble_eq_true rfl)) (SP_X6_inT (by assumption)) ?_
    refine xw_if_ne (pc := 20) 27 dX6_ruleOf_20 rfl (fun _ => ?_) (fun hb => absurd hb (by decide))
    refine xw_iconst (v := nI 0) (pc := 27) dX6_ruleOf_27 rfl ?_
    refine xm_putI (pc := 28) hM fd_X6_62 (xfin_of (by decide) (by decide +kernel)) dX6_ruleOf_28 ?_
    refine xw_aload_n (pc := 31) dX6_ruleOf_31 0 rfl ?_
    refine xm_getN (k := 0) (pc := 32) hM fd_X6_62 dX6_ruleOf_32 (by first | rfl | (simp [mset, mcpy]; done)) ?_
    refine xw_if_le (pc := 35) 40 dX6_ruleOf_35 rfl (fun _ => ?_) (fun hb => absurd hb (by decide))
    refine xw_iload_n (pc := 40) dX6_ruleOf_40 2 rfl ?_
    refine xw_tableIn (x := nI 6) (pc := 41) 72 dX6_ruleOf_41 (by decide) (by decide) rfl rfl ?_
    refine xw_aload_n (pc := 72) dX6_ruleOf_72 0 rfl ?_
    refine xw_iload_n (pc := 73) dX6_ruleOf_73 1 rfl ?_
    refine xw_callV (pc := 74) (xr_V (as := [_]) ok_X6_depthOfRule rfl (by decide) q2429 q2431 qs57 (by rw [xtag_with, hM.1]; rfl) (by rw [xtag_with, hM.1]; rfl) dX6_ruleOf_74 rfl rfl (Nat.le_of_ble_eq_true rfl)) (SP_X6_depthOfRule hM (n := rr) (by rw [e1]; exact hWp) hr r hrr) ?_
    refine xw_iret (pc := 77) .int dX6_ruleOf_77 rfl ?_ 
    exact ⟨by simp [opRuleOf, e1], rfl⟩
  by_cases w7 : w = 7
  · subst w7
    refine xm_of (by decide +kernel) (Nat.le_of_ble_eq_true rfl) ?_
    show XW _ _ 0 [(0, _), (1, _), (2, _)] [] _ _
    refine xw_aload_n (pc := 0) dX6_ruleOf_0 0 rfl ?_
    refine xw_aload_n (pc := 1) dX6_ruleOf_1 0 rfl ?_
    refine xw_iload_n (pc := 2) dX6_ruleOf_2 1 rfl ?_
    refine xw_callV (pc := 3) (xr_V (as := [_]) ok_X6_isRule rfl (by decide) q2445 q2447 qs60 (by rw [xtag_with, hM.1]; rfl) (by rw [xtag_with, hM.1]; rfl) dX6_ruleOf_3 rfl rfl (Nat.le_of_ble_eq_true rfl)) (SP_X6_isRuleK hM r rr hr (by assumption) h1) ?_
    refine xw_if_ne (pc := 6) 13 dX6_ruleOf_6 rfl (fun _ => ?_) (fun hb => absurd hb (by decide))
    refine xw_iload_n (pc := 13) dX6_ruleOf_13 2 rfl ?_
    refine xw_iconst (v := nI 0) (pc := 14) dX6_ruleOf_14 rfl ?_
    refine xw_bipush (v := nI 9) (pc := 15) dX6_ruleOf_15 (by decide +kernel) ?_
    refine xw_callV (pc := 17) (xr_S (as := [_, _, _]) ok_X6_in rfl (by decide) q2364 q2365 dX6_ruleOf_17 rfl rfl (Nat.le_of_ble_eq_true rfl)) (SP_X6_inT (by assumption)) ?_
    refine xw_if_ne (pc := 20) 27 dX6_ruleOf_20 rfl (fun _ => ?_) (fun hb => absurd hb (by decide))
    refine xw_iconst (v := nI 0) (pc := 27) dX6_ruleOf_27 rfl ?_
    refine xm_putI (pc := 28) hM fd_X6_62 (xfin_of (by decide) (by decide +kernel)) dX6_ruleOf_28 ?_
    refine xw_aload_n (pc := 31) dX6_ruleOf_31 0 rfl ?_
    refine xm_getN (k := 0) (pc := 32) hM fd_X6_62 dX6_ruleOf_32 (by first | rfl | (simp [mset, mcpy]; done)) ?_
    refine xw_if_le (pc := 35) 40 dX6_ruleOf_35 rfl (fun _ => ?_) (fun hb => absurd hb (by decide))
    refine xw_iload_n (pc := 40) dX6_ruleOf_40 2 rfl ?_
    refine xw_tableIn (x := nI 7) (pc := 41) 78 dX6_ruleOf_41 (by decide) (by decide) rfl rfl ?_
    refine xw_aload_n (pc := 78) dX6_ruleOf_78 0 rfl ?_
    refine xw_iload_n (pc := 79) dX6_ruleOf_79 1 rfl ?_
    refine xw_bipush (v := nI 7) (pc := 80) dX6_ruleOf_80 (by decide +kernel) ?_
    refine xw_callV (pc := 82) (xr_V (as := [_, _]) ok_X6_of rfl (by decide) q2396 q2398 qs53 (by rw [xtag_with, hM.1]; rfl) (by rw [xtag_with, hM.1]; rfl) dX6_ruleOf_82 rfl rfl (Nat.le_of_ble_eq_true rfl)) (SP_X6_of hM (r) (7) (by omega)) ?_
    refine xw_iret (pc := 85) .int dX6_ruleOf_85 rfl ?_ 
    exact ⟨by simp [opRuleOf, e1], rfl⟩
  by_cases w8 : w = 8
  · subst w8
    refine xm_of (by decide +kernel) (Nat.le_of_ble_eq_true rfl) ?_
    show XW _ _ 0 [(0, _), (1, _), (2, _)] [] _ _
    refine xw_aload_n (pc := 0) dX6_ruleOf_0 0 rfl ?_
    refine xw_aload_n (pc := 1) dX6_ruleOf_1 0 rfl ?_
    refine xw_iload_n (pc := 2) dX6_ruleOf_2 1 rfl ?_
    refine xw_callV (pc := 3) (xr_V (as := [_]) ok_X6_isRule rfl (by decide) q2445 q2447 qs60 (by rw [xtag_with, hM.1]; rfl) (by rw [xtag_with, hM.1]; rfl) dX6_ruleOf_3 rfl rfl (Nat.le_of_ble_eq_true rfl)) (SP_X6_isRuleK hM r rr hr (by assumption) h1) ?_
    refine xw_if_ne (pc := 6) 13 dX6_ruleOf_6 rfl (fun _ => ?_) (fun hb => absurd hb (by decide))
    refine xw_iload_n (pc := 13) dX6_ruleOf_13 2 rfl ?_
    refine xw_iconst (v := nI 0) (pc := 14) dX6_ruleOf_14 rfl ?_
    refine xw_bipush (v := nI 9) (pc := 15) dX6_ruleOf_15 (by decide +kernel) ?_
    refine xw_callV (pc := 17) (xr_S (as := [_, _, _]) ok_X6_in rfl (by decide) q2364 q2365 dX6_ruleOf_17 rfl rfl (Nat.le_of_ble_eq_true rfl)) (SP_X6_inT (by assumption)) ?_
    refine xw_if_ne (pc := 20) 27 dX6_ruleOf_20 rfl (fun _ => ?_) (fun hb => absurd hb (by decide))
    refine xw_iconst (v := nI 0) (pc := 27) dX6_ruleOf_27 rfl ?_
    refine xm_putI (pc := 28) hM fd_X6_62 (xfin_of (by decide) (by decide +kernel)) dX6_ruleOf_28 ?_
    refine xw_aload_n (pc := 31) dX6_ruleOf_31 0 rfl ?_
    refine xm_getN (k := 0) (pc := 32) hM fd_X6_62 dX6_ruleOf_32 (by first | rfl | (simp [mset, mcpy]; done)) ?_
    refine xw_if_le (pc := 35) 40 dX6_ruleOf_35 rfl (fun _ => ?_) (fun hb => absurd hb (by decide))
    refine xw_iload_n (pc := 40) dX6_ruleOf_40 2 rfl ?_
    refine xw_tableIn (x := nI 8) (pc := 41) 86 dX6_ruleOf_41 (by decide) (by decide) rfl rfl ?_
    refine xw_iconst (v := nI 0) (pc := 86) dX6_ruleOf_86 rfl ?_
    refine xw_istore_n (l' := [(3, _), (0, _), (1, _), (2, _)]) (pc := 87) dX6_ruleOf_87 rfl (by decide) rfl ?_
    refine xw_iconst (v := nI 0) (pc := 88) dX6_ruleOf_88 rfl ?_
    refine xw_istore (l' := [(4, _), (3, _), (0, _), (1, _), (2, _)]) (pc := 89) dX6_ruleOf_89 (by decide) rfl ?_
    rw [show opRuleOf S rr r 8 = nI (cntB (isPar S r) rr) from rfl, ← e2]
    exact lp_X6_ruleOf hM rr r hr hrr (by rw [e1]; exact h1) (rr + 1) 0 (by omega) (by omega)
  by_cases w9 : w = 9
  · subst w9
    refine xm_of (by decide +kernel) (Nat.le_of_ble_eq_true rfl) ?_
    show XW _ _ 0 [(0, _), (1, _), (2, _)] [] _ _
    refine xw_aload_n (pc := 0) dX6_ruleOf_0 0 rfl ?_
    refine xw_aload_n (pc := 1) dX6_ruleOf_1 0 rfl ?_
    refine xw_iload_n (pc := 2) dX6_ruleOf_2 1 rfl ?_
    refine xw_callV (pc := 3) (xr_V (as := [_]) ok_X6_isRule rfl (by decide) q2445 q2447 qs60 (by rw [xtag_with, hM.1]; rfl) (by rw [xtag_with, hM.1]; rfl) dX6_ruleOf_3 rfl rfl (Nat.le_of_ble_eq_true rfl)) (SP_X6_isRuleK hM r rr hr (by assumption) h1) ?_
    refine xw_if_ne (pc := 6) 13 dX6_ruleOf_6 rfl (fun _ => ?_) (fun hb => absurd hb (by decide))
    refine xw_iload_n (pc := 13) dX6_ruleOf_13 2 rfl ?_
    refine xw_iconst (v := nI 0) (pc := 14) dX6_ruleOf_14 rfl ?_
    refine xw_bipush (v := nI 9) (pc := 15) dX6_ruleOf_15 (by decide +kernel) ?_
    refine xw_callV (pc := 17) (xr_S (as := [_, _, _]) ok_X6_in rfl (by decide) q2364 q2365 dX6_ruleOf_17 rfl rfl (Nat.le_of_ble_eq_true rfl)) (SP_X6_inT (by assumption)) ?_
    refine xw_if_ne (pc := 20) 27 dX6_ruleOf_20 rfl (fun _ => ?_) (fun hb => absurd hb (by decide))
    refine xw_iconst (v := nI 0) (pc := 27) dX6_ruleOf_27 rfl ?_
    refine xm_putI (pc := 28) hM fd_X6_62 (xfin_of (by decide) (by decide +kernel)) dX6_ruleOf_28 ?_
    refine xw_aload_n (pc := 31) dX6_ruleOf_31 0 rfl ?_
    refine xm_getN (k := 0) (pc := 32) hM fd_X6_62 dX6_ruleOf_32 (by first | rfl | (simp [mset, mcpy]; done)) ?_
    refine xw_if_le (pc := 35) 40 dX6_ruleOf_35 rfl (fun _ => ?_) (fun hb => absurd hb (by decide))
    refine xw_iload_n (pc := 40) dX6_ruleOf_40 2 rfl ?_
    refine xw_tableIn (x := nI 9) (pc := 41) 129 dX6_ruleOf_41 (by decide) (by decide) rfl rfl ?_
    refine xw_aload_n (pc := 129) dX6_ruleOf_129 0 rfl ?_
    refine xw_iload_n (pc := 130) dX6_ruleOf_130 1 rfl ?_
    refine xw_bipush (v := nI 6) (pc := 131) dX6_ruleOf_131 (by decide +kernel) ?_
    refine xw_callV (pc := 133) (xr_V (as := [_, _]) ok_X6_of rfl (by decide) q2396 q2398 qs53 (by rw [xtag_with, hM.1]; rfl) (by rw [xtag_with, hM.1]; rfl) dX6_ruleOf_133 rfl rfl (Nat.le_of_ble_eq_true rfl)) (SP_X6_of hM (r) (6) (by omega)) ?_
    refine xw_iret (pc := 136) .int dX6_ruleOf_136 rfl ?_ 
    exact ⟨by simp [opRuleOf, e1], rfl⟩
  refine xm_of (by decide +kernel) (Nat.le_of_ble_eq_true rfl) ?_
  show XW _ _ 0 [(0, _), (1, _), (2, _)] [] _ _
  refine xw_aload_n (pc := 0) dX6_ruleOf_0 0 rfl ?_
  refine xw_aload_n (pc := 1) dX6_ruleOf_1 0 rfl ?_
  refine xw_iload_n (pc := 2) dX6_ruleOf_2 1 rfl ?_
  refine xw_callV (pc := 3) (xr_V (as := [_]) ok_X6_isRule rfl (by decide) q2445 q2447 qs60 (by rw [xtag_with, hM.1]; rfl) (by rw [xtag_with, hM.1]; rfl) dX6_ruleOf_3 rfl rfl (Nat.le_of_ble_eq_true rfl)) (SP_X6_isRuleK hM r rr hr (by assumption) h1) ?_
  refine xw_if_ne (pc := 6) 13 dX6_ruleOf_6 rfl (fun _ => ?_) (fun hb => absurd hb (by decide))
  refine xw_iload_n (pc := 13) dX6_ruleOf_13 2 rfl ?_
  refine xw_iconst (v := nI 0) (pc := 14) dX6_ruleOf_14 rfl ?_
  refine xw_bipush (v := nI 9) (pc := 15) dX6_ruleOf_15 (by decide +kernel) ?_
  refine xw_callV (pc := 17) (xr_S (as := [_, _, _]) ok_X6_in rfl (by decide) q2364 q2365 dX6_ruleOf_17 rfl rfl (Nat.le_of_ble_eq_true rfl)) (SP_X6_inT (by assumption)) ?_
  refine xw_if_ne (pc := 20) 27 dX6_ruleOf_20 rfl (fun _ => ?_) (fun hb => absurd hb (by decide))
  refine xw_iconst (v := nI 0) (pc := 27) dX6_ruleOf_27 rfl ?_
  refine xm_putI (pc := 28) hM fd_X6_62 (xfin_of (by decide) (by decide +kernel)) dX6_ruleOf_28 ?_
  refine xw_aload_n (pc := 31) dX6_ruleOf_31 0 rfl ?_
  refine xm_getN (k := 0) (pc := 32) hM fd_X6_62 dX6_ruleOf_32 (by first | rfl | (simp [mset, mcpy]; done)) ?_
  refine xw_if_le (pc := 35) 40 dX6_ruleOf_35 rfl (fun _ => ?_) (fun hb => absurd hb (by decide))
  refine xw_iload_n (pc := 40) dX6_ruleOf_40 2 rfl ?_
  refine xw_tableOut (pc := 41) 137 dX6_ruleOf_41 (by rw [nI_toInt (by omega)]; omega) rfl ?_
  refine xw_aload_n (pc := 137) dX6_ruleOf_137 0 rfl ?_
  refine xw_iload_n (pc := 138) dX6_ruleOf_138 1 rfl ?_
  refine xw_iload_n (pc := 139) dX6_ruleOf_139 2 rfl ?_
  refine xw_callV (pc := 140) (xr_V (as := [_, _]) ok_X6_of rfl (by decide) q2396 q2398 qs53 (by rw [xtag_with, hM.1]; rfl) (by rw [xtag_with, hM.1]; rfl) dX6_ruleOf_140 rfl rfl (Nat.le_of_ble_eq_true rfl)) (SP_X6_of hM (r) (w) (by omega)) ?_
  refine xw_iret (pc := 143) .int dX6_ruleOf_143 rfl ?_ 
  exact ⟨by simp [opRuleOf, e1, *], rfl⟩
theorem SP_X6_testOf_F {d : Nat} {g : xG} {m : Nat} {S : xMS} (hM : xMod g m) (rr : Nat) (hr : rr ≤ 16) (h1 : S 1 1 = nI rr) (v : Int32) (hv : ¬ inR v (nI 0) (nI rr - nI 1) = true) (a b : Int32) : XM M_X6_testOf (d + 2) [.ref m, .int v, .int a, .int b] (xWith g m S) (xOne (some (.int (nI 0))) (xWith g m (mset S 0 6 (nI 1)))) := by
  refine xm_of (by decide +kernel) (Nat.le_of_ble_eq_true rfl) ?_
  show XW _ _ 0 [(0, _), (1, _), (2, _), (3, _)] [] _ _
  refine xw_aload_n (pc := 0) dX6_testOf_0 0 rfl ?_
  refine xw_aload_n (pc := 1) dX6_testOf_1 0 rfl ?_
  refine xw_iload_n (pc := 2) dX6_testOf_2 1 rfl ?_
  refine xw_callV (pc := 3) (xr_V (as := [_]) ok_X6_isRule rfl (by decide) q2445 q2447 qs60 (by rw [xtag_with, hM.1]; rfl) (by rw [xtag_with, hM.1]; rfl) dX6_testOf_3 rfl rfl (Nat.le_of_ble_eq_true rfl)) (SP_X6_isRuleF hM rr h1 (by assumption)) ?_
  refine xw_if_ne (pc := 6) 13 dX6_testOf_6 rfl (fun hb => absurd hb (by decide)) (fun _ => ?_)
  refine xw_iconst (v := nI 1) (pc := 9) dX6_testOf_9 rfl ?_
  refine xw_goto (pc := 10) 48 dX6_testOf_10 rfl ?_
  refine xm_putI (pc := 48) hM fd_X6_62 (xfin_of (by decide) (by decide +kernel)) dX6_testOf_48 ?_
  refine xw_aload_n (pc := 51) dX6_testOf_51 0 rfl ?_
  refine xm_getN (k := 1) (pc := 52) hM fd_X6_62 dX6_testOf_52 (by first | rfl | (simp [mset, mcpy]; done)) ?_
  refine xw_if_le (pc := 55) 62 dX6_testOf_55 rfl (fun hb => absurd hb (by decide)) (fun _ => ?_)
  refine xw_iconst (v := nI 0) (pc := 58) dX6_testOf_58 rfl ?_
  refine xw_goto (pc := 59) 75 dX6_testOf_59 rfl ?_
  refine xw_iret (pc := 75) .int dX6_testOf_75 rfl ?_ 
  exact ⟨rfl, rfl⟩
theorem SP_X6_testOf_F2 {d : Nat} {g : xG} {m : Nat} {S : xMS} (hM : xMod g m) (rr : Nat) (hr : rr ≤ 16) (h1 : S 1 1 = nI rr) (r t : Nat) (hrr : r < rr) (ht : t ≤ 4) (h7 : S 1 (23 + 20 * r + 7) = nI t) (a b : Int32) (ha : ¬ inR a (nI 0) (nI t - nI 1) = true) : XM M_X6_testOf (d + 2) [.ref m, .int (nI r), .int a, .int b] (xWith g m S) (xOne (some (.int (nI 0))) (xWith g m (mset S 0 6 (nI 2)))) := by
  refine xm_of (by decide +kernel) (Nat.le_of_ble_eq_true rfl) ?_
  show XW _ _ 0 [(0, _), (1, _), (2, _), (3, _)] [] _ _
  refine xw_aload_n (pc := 0) dX6_testOf_0 0 rfl ?_
  refine xw_aload_n (pc := 1) dX6_testOf_1 0 rfl ?_
  refine xw_iload_n (pc := 2) dX6_testOf_2 1 rfl ?_
  refine xw_callV (pc := 3) (xr_V (as := [_]) ok_X6_isRule rfl (by decide) q2445 q2447 qs60 (by rw [xtag_with, hM.1]; rfl) (by rw [xtag_with, hM.1]; rfl) dX6_testOf_3 rfl rfl (Nat.le_of_ble_eq_true rfl)) (SP_X6_isRuleK hM r rr hr (by assumption) h1) ?_
  refine xw_if_ne (pc := 6) 13 dX6_testOf_6 rfl (fun _ => ?_) (fun hb => absurd hb (by decide))
  refine xw_iload_n (pc := 13) dX6_testOf_13 2 rfl ?_
  refine xw_iconst (v := nI 0) (pc := 14) dX6_testOf_14 rfl ?_
  refine xw_aload_n (pc := 15) dX6_testOf_15 0 rfl ?_
  refine xw_iload_n (pc := 16) dX6_testOf_16 1 rfl ?_
  refine xw_bipush (v := nI 7) (pc := 17) dX6_testOf_17 (by decide +kernel) ?_
  refine xw_callV (pc := 19) (xr_V (as := [_, _]) ok_X6_of rfl (by decide) q2396 q2398 qs53 (by rw [xtag_with, hM.1]; rfl) (by rw [xtag_with, hM.1]; rfl) dX6_testOf_19 rfl rfl (Nat.le_of_ble_eq_true rfl)) (SP_X6_ofN hM r 7 t (by omega) h7) ?_
  refine xw_iconst (v := nI 1) (pc := 22) dX6_testOf_22 rfl ?_
  refine xw_isub (pc := 23) dX6_testOf_23 ?_
  refine xw_callV (pc := 24) (xr_S (as := [_, _, _]) ok_X6_in rfl (by decide) q2364 q2365 dX6_testOf_24 rfl rfl (Nat.le_of_ble_eq_true rfl)) (SP_X6_inF (by assumption)) ?_
  refine xw_if_ne (pc := 27) 34 dX6_testOf_27 rfl (fun hb => absurd hb (by decide)) (fun _ => ?_)
  refine xw_iconst (v := nI 2) (pc := 30) dX6_testOf_30 rfl ?_
  refine xw_goto (pc := 31) 48 dX6_testOf_31 rfl ?_
  refine xm_putI (pc := 48) hM fd_X6_62 (xfin_of (by decide) (by decide +kernel)) dX6_testOf_48 ?_
  refine xw_aload_n (pc := 51) dX6_testOf_51 0 rfl ?_
  refine xm_getN (k := 2) (pc := 52) hM fd_X6_62 dX6_testOf_52 (by first | rfl | (simp [mset, mcpy]; done)) ?_
  refine xw_if_le (pc := 55) 62 dX6_testOf_55 rfl (fun hb => absurd hb (by decide)) (fun _ => ?_)
  refine xw_iconst (v := nI 0) (pc := 58) dX6_testOf_58 rfl ?_
  refine xw_goto (pc := 59) 75 dX6_testOf_59 rfl ?_
  refine xw_iret (pc := 75) .int dX6_testOf_75 rfl ?_ 
  exact ⟨rfl, rfl⟩
theorem SP_X6_testOf_F3 {d : Nat} {g : xG} {m : Nat} {S : xMS} (hM : xMod g m) (rr : Nat) (hr : rr ≤ 16) (h1 : S 1 1 = nI rr) (r t : Nat) (hrr : r < rr) (ht : t ≤ 4) (h7 : S 1 (23 + 20 * r + 7) = nI t) (a b : Int32) (ha : inR a (nI 0) (nI t - nI 1) = true) (hb : ¬ inR b (nI 0) (nI 2) = true) : XM M_X6_testOf (d + 2) [.ref m, .int (nI r), .int a, .int b] (xWith g m S) (xOne (some (.int (nI 0))) (xWith g m (mset S 0 6 (nI 3)))) := by
  refine xm_of (by decide +kernel) (Nat.le_of_ble_eq_true rfl) ?_
  show XW _ _ 0 [(0, _), (1, _), (2, _), (3, _)] [] _ _
  refine xw_aload_n (pc := 0) dX6_testOf_0 0 rfl ?_
  refine xw_aload_n (pc := 1) dX6_testOf_1 0 rfl ?_
  refine xw_iload_n (pc := 2) dX6_testOf_2 1 rfl ?_
  refine xw_callV (pc := 3) (xr_V (as := [_]) ok_X6_isRule rfl (by decide) q2445 q2447 qs60 (by rw [xtag_with, hM.1]; rfl) (by rw [xtag_with, hM.1]; rfl) dX6_testOf_3 rfl rfl (Nat.le_of_ble_eq_true rfl)) (SP_X6_isRuleK hM r rr hr (by assumption) h1) ?_
  refine xw_if_ne (pc := 6) 13 dX6_testOf_6 rfl (fun _ => ?_) (fun hb => absurd hb (by decide))
  refine xw_iload_n (pc := 13) dX6_testOf_13 2 rfl ?_
  refine xw_iconst (v := nI 0) (pc := 14) dX6_testOf_14 rfl ?_
  refine xw_aload_n (pc := 15) dX6_testOf_15 0 rfl ?_
  refine xw_iload_n (pc := 16) dX6_testOf_16 1 rfl ?_
  refine xw_bipush (v := nI 7) (pc := 17) dX6_testOf_17 (by decide +kernel) ?_
  refine xw_callV (pc := 19) (xr_V (as := [_, _]) ok_X6_of rfl (by decide) q2396 q2398 qs53 (by rw [xtag_with, hM.1]; rfl) (by rw [xtag_with, hM.1]; rfl) dX6_testOf_19 rfl rfl (Nat.le_of_ble_eq_true rfl)) (SP_X6_ofN hM r 7 t (by omega) h7) ?_
  refine xw_iconst (v := nI 1) (pc := 22) dX6_testOf_22 rfl ?_
  refine xw_isub (pc := 23) dX6_testOf_23 ?_
  refine xw_callV (pc := 24) (xr_S (as := [_, _, _]) ok_X6_in rfl (by decide) q2364 q2365 dX6_testOf_24 rfl rfl (Nat.le_of_ble_eq_true rfl)) (SP_X6_inT (by assumption)) ?_
  refine xw_if_ne (pc := 27) 34 dX6_testOf_27 rfl (fun _ => ?_) (fun hb => absurd hb (by decide))
  refine xw_iload_n (pc := 34) dX6_testOf_34 3 rfl ?_
  refine xw_iconst (v := nI 0) (pc := 35) dX6_testOf_35 rfl ?_
  refine xw_iconst (v := nI 2) (pc := 36) dX6_testOf_36 rfl ?_
  refine xw_callV (pc := 37) (xr_S (as := [_, _, _]) ok_X6_in rfl (by decide) q2364 q2365 dX6_testOf_37 rfl rfl (Nat.le_of_ble_eq_true rfl)) (SP_X6_inF (by assumption)) ?_
  refine xw_if_ne (pc := 40) 47 dX6_testOf_40 rfl (fun hb => absurd hb (by decide)) (fun _ => ?_)
  refine xw_iconst (v := nI 3) (pc := 43) dX6_testOf_43 rfl ?_
  refine xw_goto (pc := 44) 48 dX6_testOf_44 rfl ?_
  refine xm_putI (pc := 48) hM fd_X6_62 (xfin_of (by decide) (by decide +kernel)) dX6_testOf_48 ?_
  refine xw_aload_n (pc := 51) dX6_testOf_51 0 rfl ?_
  refine xm_getN (k := 3) (pc := 52) hM fd_X6_62 dX6_testOf_52 (by first | rfl | (simp [mset, mcpy]; done)) ?_
  refine xw_if_le (pc := 55) 62 dX6_testOf_55 rfl (fun hb => absurd hb (by decide)) (fun _ => ?_)
  refine xw_iconst (v := nI 0) (pc := 58) dX6_testOf_58 rfl ?_
  refine xw_goto (pc := 59) 75 dX6_testOf_59 rfl ?_
  refine xw_iret (pc := 75) .int dX6_testOf_75 rfl ?_ 
  exact ⟨rfl, rfl⟩
theorem SP_X6_testOf {d : Nat} {g : xG} {m : Nat} {S : xMS} (hM : xMod g m) (rr : Nat) (hr : rr ≤ 16) (h1 : S 1 1 = nI rr) (r t : Nat) (hrr : r < rr) (ht : t ≤ 4) (h7 : S 1 (23 + 20 * r + 7) = nI t) (k w : Nat) (hk : k < t) (hw : w ≤ 2) : XM M_X6_testOf (d + 2) [.ref m, .int (nI r), .int (nI k), .int (nI w)] (xWith g m S) (xOne (some (.int (S 1 (23 + 20 * r + (8 + 3 * k + w))))) (xWith g m (mset S 0 6 (nI 0)))) := by
  have hi1 := inR_k (n := t) (k := k) (by omega) hk
  have hi2 := inR_nat' (k := w) (b := 2) (by decide) hw
  have e1 : (mset S 0 6 (nI 0)) 1 = S 1 := mset_q (by decide)
  refine xm_of (by decide +kernel) (Nat.le_of_ble_eq_true rfl) ?_
  show XW _ _ 0 [(0, _), (1, _), (2, _), (3, _)] [] _ _
  refine xw_aload_n (pc := 0) dX6_testOf_0 0 rfl ?_
  refine xw_aload_n (pc := 1) dX6_testOf_1 0 rfl ?_
  refine xw_iload_n (pc := 2) dX6_testOf_2 1 rfl ?_
  refine xw_callV (pc := 3) (xr_V (as := [_]) ok_X6_isRule rfl (by decide) q2445 q2447 qs60 (by rw [xtag_with, hM.1]; rfl) (by rw [xtag_with, hM.1]; rfl) dX6_testOf_3 rfl rfl (Nat.le_of_ble_eq_true rfl)) (SP_X6_isRuleK hM r rr hr (by assumption) h1) ?_
  refine xw_if_ne (pc := 6) 13 dX6_testOf_6 rfl (fun _ => ?_) (fun hb => absurd hb (by decide))
  refine xw_iload_n (pc := 13) dX6_testOf_13 2 rfl ?_
  refine xw_iconst (v := nI 0) (pc := 14) dX6_testOf_14 rfl ?_
  refine xw_aload_n (pc := 15) dX6_testOf_15 0 rfl ?_
  refine xw_iload_n (pc := 16) dX6_testOf_16 1 rfl ?_
  refine xw_bipush (v := nI 7) (pc := 17) dX6_testOf_17 (by decide +kernel) ?_
  refine xw_callV (pc := 19) (xr_V (as := [_, _]) ok_X6_of rfl (by decide) q2396 q2398 qs53 (by rw [xtag_with, hM.1]; rfl) (by rw [xtag_with, hM.1]; rfl) dX6_testOf_19 rfl rfl (Nat.le_of_ble_eq_true rfl)) (SP_X6_ofN hM r 7 t (by omega) h7) ?_
  refine xw_iconst (v := nI 1) (pc := 22) dX6_testOf_22 rfl ?_
  refine xw_isub (pc := 23) dX6_testOf_23 ?_
  refine xw_callV (pc := 24) (xr_S (as := [_, _, _]) ok_X6_in rfl (by decide) q2364 q2365 dX6_testOf_24 rfl rfl (Nat.le_of_ble_eq_true rfl)) (SP_X6_inT (by assumption)) ?_
  refine xw_if_ne (pc := 27) 34 dX6_testOf_27 rfl (fun _ => ?_) (fun hb => absurd hb (by decide))
  refine xw_iload_n (pc := 34) dX6_testOf_34 3 rfl ?_
  refine xw_iconst (v := nI 0) (pc := 35) dX6_testOf_35 rfl ?_
  refine xw_iconst (v := nI 2) (pc := 36) dX6_testOf_36 rfl ?_
  refine xw_callV (pc := 37) (xr_S (as := [_, _, _]) ok_X6_in rfl (by decide) q2364 q2365 dX6_testOf_37 rfl rfl (Nat.le_of_ble_eq_true rfl)) (SP_X6_inT (by assumption)) ?_
  refine xw_if_ne (pc := 40) 47 dX6_testOf_40 rfl (fun _ => ?_) (fun hb => absurd hb (by decide))
  refine xw_iconst (v := nI 0) (pc := 47) dX6_testOf_47 rfl ?_
  refine xm_putI (pc := 48) hM fd_X6_62 (xfin_of (by decide) (by decide +kernel)) dX6_testOf_48 ?_
  refine xw_aload_n (pc := 51) dX6_testOf_51 0 rfl ?_
  refine xm_getN (k := 0) (pc := 52) hM fd_X6_62 dX6_testOf_52 (by first | rfl | (simp [mset, mcpy]; done)) ?_
  refine xw_if_le (pc := 55) 62 dX6_testOf_55 rfl (fun _ => ?_) (fun hb => absurd hb (by decide))
  refine xw_aload_n (pc := 62) dX6_testOf_62 0 rfl ?_
  refine xw_iload_n (pc := 63) dX6_testOf_63 1 rfl ?_
  refine xw_bipush (v := nI 8) (pc := 64) dX6_testOf_64 (by decide +kernel) ?_
  refine xw_iconst (v := nI 3) (pc := 66) dX6_testOf_66 rfl ?_
  refine xw_iload_n (pc := 67) dX6_testOf_67 2 rfl ?_
  refine xn_imul (pc := 68) dX6_testOf_68 ?_
  refine xn_iadd (pc := 69) dX6_testOf_69 ?_
  refine xw_iload_n (pc := 70) dX6_testOf_70 3 rfl ?_
  refine xn_iadd (pc := 71) dX6_testOf_71 ?_
  refine xw_callV (pc := 72) (xr_V (as := [_, _]) ok_X6_of rfl (by decide) q2396 q2398 qs53 (by rw [xtag_with, hM.1]; rfl) (by rw [xtag_with, hM.1]; rfl) dX6_testOf_72 rfl rfl (Nat.le_of_ble_eq_true rfl)) (SP_X6_of hM (r) (((8 + (3 * k)) + w)) (by omega)) ?_
  refine xw_iret (pc := 75) .int dX6_testOf_75 rfl ?_ 
  exact ⟨by rw [e1], rfl⟩
