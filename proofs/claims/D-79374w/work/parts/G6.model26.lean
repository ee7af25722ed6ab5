/-! MODEL 26: the reference's rows -/
set_option maxRecDepth 100000
theorem SP_X6_keepRow {d : Nat} {g : xG} {m : Nat} {S : xMS} (hM : xMod g m) (n rr w : Nat) (hn : n ≤ 10) (hr : rr ≤ 16) (hw : w ≤ 12) (h1 : S 1 1 = nI rr) (h2 : S 1 2 = nI w) (hW : WFo (S 1) n) (hWr : WFr (S 1) n rr) (hWw : WFw (S 1) n w) (hf : brOk (fun r => S 1 (23 + 20 * r + 6)) rr) {row : Nat} (hrow : row < 3) : XM M_X6_keepRow (d + 5) [.ref m, .int (nI row)] (xWith g m S) (xLk g m (kpS (mset (mset S 0 6 (nI 0)) 11 row (nI w)) row (brW (S 1) (S 0 14) rr) w) (nI w)) := by
  have hR : inR (nI row) (nI 0) (nI 2) = true := inR_nat' (by decide) (by omega)
  have e1 : (mset (mset S 0 6 (nI 0)) 11 row (nI w)) 1 = S 1 := (mset_q (by decide)).trans (mset_q (by decide))
  refine xm_of (by decide +kernel) (Nat.le_of_ble_eq_true rfl) ?_
  show XW _ _ 0 [(0, _), (1, _)] [] _ _
  refine xw_aload_n (pc := 0) dX6_keepRow_0 0 rfl ?_
  refine xw_iload_n (pc := 1) dX6_keepRow_1 1 rfl ?_
  refine xw_callV (pc := 2) (xr_S (as := [_]) ok_X6_isRow rfl (by decide) q2649 q2650 dX6_keepRow_2 rfl rfl (Nat.le_of_ble_eq_true rfl)) ((show XM M_X6_isRow (d + 4) [.int (nI row)] _ (xOne (some (.int (bI true))) _) from by have h9 := SP_X6_isRow (d := d + 3) (g := (xWith g m S)) (v := (nI row)); rw [hR] at h9; exact h9)) ?_
  refine xw_if_eq (pc := 5) 12 dX6_keepRow_5 rfl (fun hb => absurd hb (by decide)) (fun _ => ?_)
  refine xw_iconst (v := nI 0) (pc := 8) dX6_keepRow_8 rfl ?_
  refine xw_goto (pc := 9) 13 dX6_keepRow_9 rfl ?_
  refine xm_putI (pc := 13) hM fd_X6_62 (xfin_of (by decide) (by decide +kernel)) dX6_keepRow_13 ?_
  refine xw_aload_n (pc := 16) dX6_keepRow_16 0 rfl ?_
  refine xm_getN (k := 0) (pc := 17) hM fd_X6_62 dX6_keepRow_17 (by first | rfl | (simp [mset, mcpy]; done)) ?_
  refine xw_if_le (pc := 20) 25 dX6_keepRow_20 rfl (fun _ => ?_) (fun hb => absurd hb (by decide))
  refine xw_aload_n (pc := 25) dX6_keepRow_25 0 rfl ?_
  refine xm_get (p := 11) (pc := 26) hM fd_X6_49 dX6_keepRow_26 rfl ?_
  refine xw_iload_n (pc := 29) dX6_keepRow_29 1 rfl ?_
  refine xw_aload_n (pc := 30) dX6_keepRow_30 0 rfl ?_
  refine xm_get (p := 1) (pc := 31) hM fd_X6_9 dX6_keepRow_31 rfl ?_
  refine xw_iconst (v := nI 2) (pc := 34) dX6_keepRow_34 rfl ?_
  refine xm_ialdN (v := w) (pc := 35) hM dX6_keepRow_35 rfl (by decide) (by rw [mset_q (by decide)]; exact h2) ?_
  refine xm_iast (pc := 36) hM dX6_keepRow_36 rfl (by omega) ?_
  refine xw_iconst (v := nI 0) (pc := 37) dX6_keepRow_37 rfl ?_
  refine xw_istore_n (l' := [(2, _), (0, _), (1, _)]) (pc := 38) dX6_keepRow_38 rfl (by decide) rfl ?_
  have h9 := lp_X6_keepRow (d := d) (S := (mset (mset S 0 6 (nI 0)) 11 row (nI w))) hM n rr w hn hr hw (by rw [e1]; exact h1) (by rw [e1]; exact h2) (by rw [e1]; exact hW) (by rw [e1]; exact hWr) (by rw [e1]; exact hWw) (by rw [e1]; exact hf) hrow (by unfold mset; rw [if_pos ⟨rfl, rfl⟩]) (w + 1) 0 (mset (mset S 0 6 (nI 0)) 11 row (nI w)) (by omega) (Nat.zero_le _) (fun p _ _ => by rw [kpS_0])
  rw [e1] at h9
  exact h9
theorem SP_X6_copyRow_F1 {d : Nat} {g : xG} {m : Nat} {S : xMS} (hM : xMod g m) (a b c : Int32) (ha : inR a (nI 0) (nI 2) = false) : XM M_X6_copyRow (d + 5) [.ref m, .int a, .int b, .int c] (xWith g m S) (xOne (some (.int (nI 0))) (xWith g m (mset S 0 6 (nI 1)))) := by
  refine xm_of (by decide +kernel) (Nat.le_of_ble_eq_true rfl) ?_
  show XW _ _ 0 [(0, _), (1, _), (2, _), (3, _)] [] _ _
  refine xw_aload_n (pc := 0) dX6_copyRow_0 0 rfl ?_
  refine xw_iload_n (pc := 1) dX6_copyRow_1 1 rfl ?_
  refine xw_callV (pc := 2) (xr_S (as := [_]) ok_X6_isRow rfl (by decide) q2649 q2650 dX6_copyRow_2 rfl rfl (Nat.le_of_ble_eq_true rfl)) ((show XM M_X6_isRow (d + 4) [.int a] _ (xOne (some (.int (bI false))) _) from by have h9 := SP_X6_isRow (d := d + 3) (g := (xWith g m S)) (v := a); rw [ha] at h9; exact h9)) ?_
  refine xw_if_eq (pc := 5) 15 dX6_copyRow_5 rfl (fun _ => ?_) (fun hb => absurd hb (by decide))
  refine xw_iconst (v := nI 1) (pc := 15) dX6_copyRow_15 rfl ?_
  refine xw_goto (pc := 16) 48 dX6_copyRow_16 rfl ?_
  refine xm_putI (pc := 48) hM fd_X6_62 (xfin_of (by decide) (by decide +kernel)) dX6_copyRow_48 ?_
  refine xw_aload_n (pc := 51) dX6_copyRow_51 0 rfl ?_
  refine xm_getN (k := 1) (pc := 52) hM fd_X6_62 dX6_copyRow_52 (by first | rfl | (simp [mset, mcpy]; done)) ?_
  refine xw_if_le (pc := 55) 60 dX6_copyRow_55 rfl (fun hb => absurd hb (by decide)) (fun _ => ?_)
  refine xw_iconst (v := nI 0) (pc := 58) dX6_copyRow_58 rfl ?_
  refine xw_iret (pc := 59) .int dX6_copyRow_59 rfl ?_ 
  exact ⟨rfl, rfl⟩
theorem SP_X6_copyRow_F2 {d : Nat} {g : xG} {m : Nat} {S : xMS} (hM : xMod g m) (a b c : Int32) (ha : inR a (nI 0) (nI 2) = true) (hb : inR b (nI 0) (nI 2) = false) : XM M_X6_copyRow (d + 5) [.ref m, .int a, .int b, .int c] (xWith g m S) (xOne (some (.int (nI 0))) (xWith g m (mset S 0 6 (nI 1)))) := by
  refine xm_of (by decide +kernel) (Nat.le_of_ble_eq_true rfl) ?_
  show XW _ _ 0 [(0, _), (1, _), (2, _), (3, _)] [] _ _
  refine xw_aload_n (pc := 0) dX6_copyRow_0 0 rfl ?_
  refine xw_iload_n (pc := 1) dX6_copyRow_1 1 rfl ?_
  refine xw_callV (pc := 2) (xr_S (as := [_]) ok_X6_isRow rfl (by decide) q2649 q2650 dX6_copyRow_2 rfl rfl (Nat.le_of_ble_eq_true rfl)) ((show XM M_X6_isRow (d + 4) [.int a] _ (xOne (some (.int (bI true))) _) from by have h9 := SP_X6_isRow (d := d + 3) (g := (xWith g m S)) (v := a); rw [ha] at h9; exact h9)) ?_
  refine xw_if_eq (pc := 5) 15 dX6_copyRow_5 rfl (fun hb => absurd hb (by decide)) (fun _ => ?_)
  refine xw_iload_n (pc := 8) dX6_copyRow_8 2 rfl ?_
  refine xw_callV (pc := 9) (xr_S (as := [_]) ok_X6_isRow rfl (by decide) q2649 q2650 dX6_copyRow_9 rfl rfl (Nat.le_of_ble_eq_true rfl)) ((show XM M_X6_isRow (d + 4) [.int b] _ (xOne (some (.int (bI false))) _) from by have h9 := SP_X6_isRow (d := d + 3) (g := (xWith g m S)) (v := b); rw [hb] at h9; exact h9)) ?_
  refine xw_if_ne (pc := 12) 19 dX6_copyRow_12 rfl (fun hb => absurd hb (by decide)) (fun _ => ?_)
  refine xw_iconst (v := nI 1) (pc := 15) dX6_copyRow_15 rfl ?_
  refine xw_goto (pc := 16) 48 dX6_copyRow_16 rfl ?_
  refine xm_putI (pc := 48) hM fd_X6_62 (xfin_of (by decide) (by decide +kernel)) dX6_copyRow_48 ?_
  refine xw_aload_n (pc := 51) dX6_copyRow_51 0 rfl ?_
  refine xm_getN (k := 1) (pc := 52) hM fd_X6_62 dX6_copyRow_52 (by first | rfl | (simp [mset, mcpy]; done)) ?_
  refine xw_if_le (pc := 55) 60 dX6_copyRow_55 rfl (fun hb => absurd hb (by decide)) (fun _ => ?_)
  refine xw_iconst (v := nI 0) (pc := 58) dX6_copyRow_58 rfl ?_
  refine xw_iret (pc := 59) .int dX6_copyRow_59 rfl ?_ 
  exact ⟨rfl, rfl⟩
theorem SP_X6_copyRow_F3 {d : Nat} {g : xG} {m : Nat} {S : xMS} (hM : xMod g m) (a b c : Int32) (ha : inR a (nI 0) (nI 2) = true) (hb : inR b (nI 0) (nI 2) = true) (hc : inR c (nI 0) (nI 1000) = false) : XM M_X6_copyRow (d + 5) [.ref m, .int a, .int b, .int c] (xWith g m S) (xOne (some (.int (nI 0))) (xWith g m (mset S 0 6 (nI 2)))) := by
  refine xm_of (by decide +kernel) (Nat.le_of_ble_eq_true rfl) ?_
  show XW _ _ 0 [(0, _), (1, _), (2, _), (3, _)] [] _ _
  refine xw_aload_n (pc := 0) dX6_copyRow_0 0 rfl ?_
  refine xw_iload_n (pc := 1) dX6_copyRow_1 1 rfl ?_
  refine xw_callV (pc := 2) (xr_S (as := [_]) ok_X6_isRow rfl (by decide) q2649 q2650 dX6_copyRow_2 rfl rfl (Nat.le_of_ble_eq_true rfl)) ((show XM M_X6_isRow (d + 4) [.int a] _ (xOne (some (.int (bI true))) _) from by have h9 := SP_X6_isRow (d := d + 3) (g := (xWith g m S)) (v := a); rw [ha] at h9; exact h9)) ?_
  refine xw_if_eq (pc := 5) 15 dX6_copyRow_5 rfl (fun hb => absurd hb (by decide)) (fun _ => ?_)
  refine xw_iload_n (pc := 8) dX6_copyRow_8 2 rfl ?_
  refine xw_callV (pc := 9) (xr_S (as := [_]) ok_X6_isRow rfl (by decide) q2649 q2650 dX6_copyRow_9 rfl rfl (Nat.le_of_ble_eq_true rfl)) ((show XM M_X6_isRow (d + 4) [.int b] _ (xOne (some (.int (bI true))) _) from by have h9 := SP_X6_isRow (d := d + 3) (g := (xWith g m S)) (v := b); rw [hb] at h9; exact h9)) ?_
  refine xw_if_ne (pc := 12) 19 dX6_copyRow_12 rfl (fun _ => ?_) (fun hb => absurd hb (by decide))
  refine xw_iload_n (pc := 19) dX6_copyRow_19 3 rfl ?_
  refine xw_iconst (v := nI 0) (pc := 20) dX6_copyRow_20 rfl ?_
  refine xw_sipush (v := nI 1000) (pc := 21) dX6_copyRow_21 (by decide +kernel) ?_
  refine xw_callV (pc := 24) (xr_S (as := [_, _, _]) ok_X6_in rfl (by decide) q2364 q2365 dX6_copyRow_24 rfl rfl (Nat.le_of_ble_eq_true rfl)) ((show XM M_X6_in (d + 4) [.int c, .int (nI 0), .int (nI 1000)] _ (xOne (some (.int (bI false))) _) from by have h9 := SP_X6_in (d := d + 4) (g := (xWith g m S)) (v := c) (lo := (nI 0)) (hi := (nI 1000)); rw [hc] at h9; exact h9)) ?_
  refine xw_if_ne (pc := 27) 34 dX6_copyRow_27 rfl (fun hb => absurd hb (by decide)) (fun _ => ?_)
  refine xw_iconst (v := nI 2) (pc := 30) dX6_copyRow_30 rfl ?_
  refine xw_goto (pc := 31) 48 dX6_copyRow_31 rfl ?_
  refine xm_putI (pc := 48) hM fd_X6_62 (xfin_of (by decide) (by decide +kernel)) dX6_copyRow_48 ?_
  refine xw_aload_n (pc := 51) dX6_copyRow_51 0 rfl ?_
  refine xm_getN (k := 2) (pc := 52) hM fd_X6_62 dX6_copyRow_52 (by first | rfl | (simp [mset, mcpy]; done)) ?_
  refine xw_if_le (pc := 55) 60 dX6_copyRow_55 rfl (fun hb => absurd hb (by decide)) (fun _ => ?_)
  refine xw_iconst (v := nI 0) (pc := 58) dX6_copyRow_58 rfl ?_
  refine xw_iret (pc := 59) .int dX6_copyRow_59 rfl ?_ 
  exact ⟨rfl, rfl⟩
theorem SP_X6_copyRow_F4 {d : Nat} {g : xG} {m : Nat} {S : xMS} (hM : xMod g m) {r : Nat} (hr : r < 3) (b c : Int32) (hb : inR b (nI 0) (nI 2) = true) (hc : inR c (nI 0) (nI 1000) = true) (hm : S 11 r < 0) : XM M_X6_copyRow (d + 5) [.ref m, .int (nI r), .int b, .int c] (xWith g m S) (xOne (some (.int (nI 0))) (xWith g m (mset S 0 6 (nI 3)))) := by
  have hR : inR (nI r) (nI 0) (nI 2) = true := inR_nat' (by decide) (by omega)
  refine xm_of (by decide +kernel) (Nat.le_of_ble_eq_true rfl) ?_
  show XW _ _ 0 [(0, _), (1, _), (2, _), (3, _)] [] _ _
  refine xw_aload_n (pc := 0) dX6_copyRow_0 0 rfl ?_
  refine xw_iload_n (pc := 1) dX6_copyRow_1 1 rfl ?_
  refine xw_callV (pc := 2) (xr_S (as := [_]) ok_X6_isRow rfl (by decide) q2649 q2650 dX6_copyRow_2 rfl rfl (Nat.le_of_ble_eq_true rfl)) ((show XM M_X6_isRow (d + 4) [.int (nI r)] _ (xOne (some (.int (bI true))) _) from by have h9 := SP_X6_isRow (d := d + 3) (g := (xWith g m S)) (v := (nI r)); rw [hR] at h9; exact h9)) ?_
  refine xw_if_eq (pc := 5) 15 dX6_copyRow_5 rfl (fun hb => absurd hb (by decide)) (fun _ => ?_)
  refine xw_iload_n (pc := 8) dX6_copyRow_8 2 rfl ?_
  refine xw_callV (pc := 9) (xr_S (as := [_]) ok_X6_isRow rfl (by decide) q2649 q2650 dX6_copyRow_9 rfl rfl (Nat.le_of_ble_eq_true rfl)) ((show XM M_X6_isRow (d + 4) [.int b] _ (xOne (some (.int (bI true))) _) from by have h9 := SP_X6_isRow (d := d + 3) (g := (xWith g m S)) (v := b); rw [hb] at h9; exact h9)) ?_
  refine xw_if_ne (pc := 12) 19 dX6_copyRow_12 rfl (fun _ => ?_) (fun hb => absurd hb (by decide))
  refine xw_iload_n (pc := 19) dX6_copyRow_19 3 rfl ?_
  refine xw_iconst (v := nI 0) (pc := 20) dX6_copyRow_20 rfl ?_
  refine xw_sipush (v := nI 1000) (pc := 21) dX6_copyRow_21 (by decide +kernel) ?_
  refine xw_callV (pc := 24) (xr_S (as := [_, _, _]) ok_X6_in rfl (by decide) q2364 q2365 dX6_copyRow_24 rfl rfl (Nat.le_of_ble_eq_true rfl)) ((show XM M_X6_in (d + 4) [.int c, .int (nI 0), .int (nI 1000)] _ (xOne (some (.int (bI true))) _) from by have h9 := SP_X6_in (d := d + 4) (g := (xWith g m S)) (v := c) (lo := (nI 0)) (hi := (nI 1000)); rw [hc] at h9; exact h9)) ?_
  refine xw_if_ne (pc := 27) 34 dX6_copyRow_27 rfl (fun _ => ?_) (fun hb => absurd hb (by decide))
  refine xw_aload_n (pc := 34) dX6_copyRow_34 0 rfl ?_
  refine xm_get (p := 11) (pc := 35) hM fd_X6_49 dX6_copyRow_35 rfl ?_
  refine xw_iload_n (pc := 38) dX6_copyRow_38 1 rfl ?_
  refine xm_iald (pc := 39) hM dX6_copyRow_39 rfl (by omega) ?_
  refine xw_if_ge (pc := 40) 47 dX6_copyRow_40 rfl (fun hb40 => ?_) (fun hb40 => ?_)
  · exfalso
    exact absurd hm (Int32.not_lt.mpr hb40)
  refine xw_iconst (v := nI 3) (pc := 43) dX6_copyRow_43 rfl ?_
  refine xw_goto (pc := 44) 48 dX6_copyRow_44 rfl ?_
  refine xm_putI (pc := 48) hM fd_X6_62 (xfin_of (by decide) (by decide +kernel)) dX6_copyRow_48 ?_
  refine xw_aload_n (pc := 51) dX6_copyRow_51 0 rfl ?_
  refine xm_getN (k := 3) (pc := 52) hM fd_X6_62 dX6_copyRow_52 (by first | rfl | (simp [mset, mcpy]; done)) ?_
  refine xw_if_le (pc := 55) 60 dX6_copyRow_55 rfl (fun hb => absurd hb (by decide)) (fun _ => ?_)
  refine xw_iconst (v := nI 0) (pc := 58) dX6_copyRow_58 rfl ?_
  refine xw_iret (pc := 59) .int dX6_copyRow_59 rfl ?_ 
  exact ⟨rfl, rfl⟩
theorem hd_X6_copyRow {d : Nat} {g : xG} {m : Nat} {T : xMS} (hM : xMod g m) {v : UInt32} {k c f t q : Nat} (hv : fOKu v) (hq : q ≤ 1000) {Q : Option Value ⊕ Nat → xG → Prop} (hk : XW M_X6_copyRow d 148 [(6, .float v), (5, .int (nI k)), (4, .int (nI c)), (0, .ref m), (1, .int (nI f)), (2, .int (nI t)), (3, .int (nI q))] [.float (scV v q)] (xWith g m T) Q) : XW M_X6_copyRow d 103 [(6, .float v), (5, .int (nI k)), (4, .int (nI c)), (0, .ref m), (1, .int (nI f)), (2, .int (nI t)), (3, .int (nI q))] [] (xWith g m T) Q := by
  by_cases hn : v = 2143289344
  · subst hn
    refine xw_fload (pc := 103) dX6_copyRow_103 0 rfl ?_
    refine xw_fload (pc := 105) dX6_copyRow_105 0 rfl ?_
    refine xw_fcmp (pc := 107) dX6_copyRow_107 ?_
    refine xw_if_ne (pc := 108) 123 dX6_copyRow_108 rfl (fun hb108 => ?_) (fun hb108 => ?_)
    rotate_left
    · exfalso
      rw [cv_nan] at hb108; exact absurd hb108 (by decide)
    refine xw_iconst (v := nI 1) (pc := 123) dX6_copyRow_123 rfl ?_
    refine xw_goto (pc := 124) 128 dX6_copyRow_124 rfl ?_
    refine xw_istore (l' := [(7, _), (6, _), (5, _), (4, _), (0, _), (1, _), (2, _), (3, _)]) (pc := 128) dX6_copyRow_128 (by decide) rfl ?_
    refine xw_iload (pc := 130) dX6_copyRow_130 0 rfl ?_
    refine xw_if_eq (pc := 132) 140 dX6_copyRow_132 rfl (fun hb => absurd hb (by decide)) (fun _ => ?_)
    refine xw_ldcf (pc := 135) dX6_copyRow_135 q2657 ?_
    refine xw_goto (pc := 137) 148 dX6_copyRow_137 rfl ?_
    refine xw_pick (pc := 148) (l' := [(6, _), (5, _), (4, _), (0, _), (1, _), (2, _), (3, _)]) [1, 2, 3, 4, 5, 6, 7] rfl ?_
    rw [show scV 2143289344 q = 2143289344 from if_pos (Or.inl rfl)] at hk
    exact hk
  have hz := hv.nn hn
  by_cases hi : v = 2139095040 ∧ q = 0
  · obtain ⟨rfl, rfl⟩ := hi
    refine xw_fload (pc := 103) dX6_copyRow_103 0 rfl ?_
    refine xw_fload (pc := 105) dX6_copyRow_105 0 rfl ?_
    refine xw_fcmp (pc := 107) dX6_copyRow_107 ?_
    refine xw_if_ne (pc := 108) 123 dX6_copyRow_108 rfl (fun hb108 => ?_) (fun hb108 => ?_)
    · exfalso
      exact hb108 (cv_self hz)
    refine xw_fload (pc := 111) dX6_copyRow_111 0 rfl ?_
    refine xw_ldcf (pc := 113) dX6_copyRow_113 q2656 ?_
    refine xw_fcmp (pc := 115) dX6_copyRow_115 ?_
    refine xw_if_ne (pc := 116) 127 dX6_copyRow_116 rfl (fun hb116 => ?_) (fun hb116 => ?_)
    · exfalso
      exact hb116 cv_inf1
    refine xw_iload_n (pc := 119) dX6_copyRow_119 6 rfl ?_
    refine xw_if_ne (pc := 120) 127 dX6_copyRow_120 rfl (fun hb => absurd hb (by decide)) (fun _ => ?_)
    refine xw_iconst (v := nI 1) (pc := 123) dX6_copyRow_123 rfl ?_
    refine xw_goto (pc := 124) 128 dX6_copyRow_124 rfl ?_
    refine xw_istore (l' := [(7, _), (6, _), (5, _), (4, _), (0, _), (1, _), (2, _), (3, _)]) (pc := 128) dX6_copyRow_128 (by decide) rfl ?_
    refine xw_iload (pc := 130) dX6_copyRow_130 0 rfl ?_
    refine xw_if_eq (pc := 132) 140 dX6_copyRow_132 rfl (fun hb => absurd hb (by decide)) (fun _ => ?_)
    refine xw_ldcf (pc := 135) dX6_copyRow_135 q2657 ?_
    refine xw_goto (pc := 137) 148 dX6_copyRow_137 rfl ?_
    refine xw_pick (pc := 148) (l' := [(6, _), (5, _), (4, _), (0, _), (1, _), (2, _), (3, _)]) [1, 2, 3, 4, 5, 6, 7] rfl ?_
    rw [show scV 2139095040 0 = 2143289344 from if_pos (Or.inr ⟨rfl, rfl⟩)] at hk
    exact hk
  have hC : ¬ (v = 2143289344 ∨ (v = 2139095040 ∧ q = 0)) := fun h => h.elim hn hi
  refine xw_fload (pc := 103) dX6_copyRow_103 0 rfl ?_
  refine xw_fload (pc := 105) dX6_copyRow_105 0 rfl ?_
  refine xw_fcmp (pc := 107) dX6_copyRow_107 ?_
  refine xw_if_ne (pc := 108) 123 dX6_copyRow_108 rfl (fun hb108 => ?_) (fun hb108 => ?_)
  · exfalso
    exact hb108 (cv_self hz)
  refine xw_fload (pc := 111) dX6_copyRow_111 0 rfl ?_
  refine xw_ldcf (pc := 113) dX6_copyRow_113 q2656 ?_
  refine xw_fcmp (pc := 115) dX6_copyRow_115 ?_
  refine xw_if_ne (pc := 116) 127 dX6_copyRow_116 rfl (fun hb116 => ?_) (fun hb116 => ?_)
  · refine xw_iconst (v := nI 0) (pc := 127) dX6_copyRow_127 rfl ?_
    refine xw_istore (l' := [(7, _), (6, _), (5, _), (4, _), (0, _), (1, _), (2, _), (3, _)]) (pc := 128) dX6_copyRow_128 (by decide) rfl ?_
    refine xw_iload (pc := 130) dX6_copyRow_130 0 rfl ?_
    refine xw_if_eq (pc := 132) 140 dX6_copyRow_132 rfl (fun _ => ?_) (fun hb => absurd hb (by decide))
    refine xw_fload (pc := 140) dX6_copyRow_140 1 rfl ?_
    refine xw_iload_n (pc := 142) dX6_copyRow_142 7 rfl ?_
    refine xw_i2f (pc := 143) dX6_copyRow_143 ?_
    refine xw_fmul (pc := 144) dX6_copyRow_144 (by exact (fZ_mul hz hq hi).n32) ?_
    refine xw_ldcf (pc := 145) dX6_copyRow_145 q2576 ?_
    refine xw_fdiv (pc := 147) dX6_copyRow_147 (by exact (fZ_div (fZ_mul hz hq hi)).n32) ?_
    refine xw_pick (pc := 148) (l' := [(6, _), (5, _), (4, _), (0, _), (1, _), (2, _), (3, _)]) [1, 2, 3, 4, 5, 6, 7] rfl ?_
    rw [show scV v q = FP.fdiv (FP.fmul v (FP.i2f (nI q))) 1120403456 from if_neg hC] at hk
    exact hk
  · refine xw_iload_n (pc := 119) dX6_copyRow_119 6 rfl ?_
    refine xw_if_ne (pc := 120) 127 dX6_copyRow_120 rfl (fun hb120 => ?_) (fun hb120 => ?_)
    rotate_left
    · exfalso
      replace hb120 : q = 0 := (nI_eq (a := q) (b := 0) (by omega) (by omega)).mp hb120
      have hv9 : v = 2139095040 := by
        apply Decidable.byContradiction
        intro h9
        rw [cv_inf0 hz h9] at hb116
        exact absurd hb116 (by decide)
      exact hi ⟨hv9, hb120⟩
    replace hb120 : ¬ (q = 0) := mt (nI_eq (a := q) (b := 0) (by omega) (by omega)).mpr hb120
    refine xw_iconst (v := nI 0) (pc := 127) dX6_copyRow_127 rfl ?_
    refine xw_istore (l' := [(7, _), (6, _), (5, _), (4, _), (0, _), (1, _), (2, _), (3, _)]) (pc := 128) dX6_copyRow_128 (by decide) rfl ?_
    refine xw_iload (pc := 130) dX6_copyRow_130 0 rfl ?_
    refine xw_if_eq (pc := 132) 140 dX6_copyRow_132 rfl (fun _ => ?_) (fun hb => absurd hb (by decide))
    refine xw_fload (pc := 140) dX6_copyRow_140 1 rfl ?_
    refine xw_iload_n (pc := 142) dX6_copyRow_142 7 rfl ?_
    refine xw_i2f (pc := 143) dX6_copyRow_143 ?_
    refine xw_fmul (pc := 144) dX6_copyRow_144 (by exact (fZ_mul hz hq hi).n32) ?_
    refine xw_ldcf (pc := 145) dX6_copyRow_145 q2576 ?_
    refine xw_fdiv (pc := 147) dX6_copyRow_147 (by exact (fZ_div (fZ_mul hz hq hi)).n32) ?_
    refine xw_pick (pc := 148) (l' := [(6, _), (5, _), (4, _), (0, _), (1, _), (2, _), (3, _)]) [1, 2, 3, 4, 5, 6, 7] rfl ?_
    rw [show scV v q = FP.fdiv (FP.fmul v (FP.i2f (nI q))) 1120403456 from if_neg hC] at hk
    exact hk
theorem lp_X6_copyRow {d : Nat} {g : xG} {m : Nat} {S : xMS} (hM : xMod g m) {f t q many : Nat} (hf : f < 3) (ht : t < 3) (hq : q ≤ 1000) (hmy : many ≤ 12) (h11 : S 11 f = nI many) (hok : ∀ j, j < many → fOKu (S 10 (12 * f + j)).toUInt32) : ∀ (j k : Nat), many - k < j → k ≤ many → XW M_X6_copyRow (d + 5) 78 [(5, .int (nI k)), (4, .int (nI (abF (fun j => scV (S 10 (12 * f + j)).toUInt32 q) k))), (0, .ref m), (1, .int (nI f)), (2, .int (nI t)), (3, .int (nI q))] [] (xWith g m (kpS (mset (mset S 0 6 (nI 0)) 11 t (nI many)) t (fun j => scV (S 10 (12 * f + j)).toUInt32 q) k)) (xOne (some (.int (nI (abF (fun j => scV (S 10 (12 * f + j)).toUInt32 q) many)))) (xWith g m (kpS (mset (mset S 0 6 (nI 0)) 11 t (nI many)) t (fun j => scV (S 10 (12 * f + j)).toUInt32 q) many))) := by
  intro j
  induction j with
  | zero => intro k h; omega
  | succ j ih =>
  intro k hj hk
  have hab := abF_le (v := (fun j => scV (S 10 (12 * f + j)).toUInt32 q)) k
  have e11 : kpS (mset (mset S 0 6 (nI 0)) 11 t (nI many)) t (fun j => scV (S 10 (12 * f + j)).toUInt32 q) k 11 f = nI many := by
    rw [kpS_q (by decide)]
    unfold mset
    by_cases e : f = t
    · rw [if_pos ⟨rfl, e⟩]
    · rw [if_neg (fun h => e h.2), if_neg (fun h => absurd h.1 (by decide))]
      exact h11
  have erd : k < many → kpS (mset (mset S 0 6 (nI 0)) 11 t (nI many)) t (fun j => scV (S 10 (12 * f + j)).toUInt32 q) k 10 (12 * f + k) = S 10 (12 * f + k) := fun hkm => by
    unfold kpS mset
    rw [if_neg (fun h => by omega), if_neg (fun h => absurd h.1 (by decide)), if_neg (fun h => absurd h.1 (by decide))]
  refine xw_iload (pc := 78) dX6_copyRow_78 0 rfl ?_
  refine xw_aload_n (pc := 80) dX6_copyRow_80 2 rfl ?_
  refine xm_get (p := 11) (pc := 81) hM fd_X6_49 dX6_copyRow_81 rfl ?_
  refine xw_iload_n (pc := 84) dX6_copyRow_84 3 rfl ?_
  refine xm_ialdN (v := many) (pc := 85) hM dX6_copyRow_85 rfl (by omega) (by exact e11) ?_
  refine xw_icmp_ge (pc := 86) 187 dX6_copyRow_86 rfl (fun hb86 => ?_) (fun hb86 => ?_)
  · replace hb86 : many ≤ k := (nI_leI (a := many) (b := k) (by omega) (by omega)).mp hb86
    refine xw_iload (pc := 187) dX6_copyRow_187 1 rfl ?_
    refine xw_iret (pc := 189) .int dX6_copyRow_189 rfl ?_ 
    have ek : k = many := by omega
    subst ek
    exact ⟨rfl, rfl⟩
  · replace hb86 : ¬ (many ≤ k) := mt (nI_leI (a := many) (b := k) (by omega) (by omega)).mpr hb86
    refine xw_aload_n (pc := 89) dX6_copyRow_89 2 rfl ?_
    refine xm_get (p := 10) (pc := 90) hM fd_X6_45 dX6_copyRow_90 rfl ?_
    refine xw_bipush (v := nI 12) (pc := 93) dX6_copyRow_93 (by decide +kernel) ?_
    refine xw_iload_n (pc := 95) dX6_copyRow_95 3 rfl ?_
    refine xn_imul (pc := 96) dX6_copyRow_96 ?_
    refine xw_iload (pc := 97) dX6_copyRow_97 0 rfl ?_
    refine xn_iadd (pc := 99) dX6_copyRow_99 ?_
    refine xm_fald (pc := 100) hM dX6_copyRow_100 rfl (by omega) ?_
    have hkm : k < many := by omega
    rw [erd hkm]
    refine xw_fstore (l' := [(6, _), (5, _), (4, _), (0, _), (1, _), (2, _), (3, _)]) (pc := 101) dX6_copyRow_101 (by decide) rfl ?_
    refine hd_X6_copyRow hM (hok k hkm) hq ?_
    refine xw_fstore (l' := [(8, _), (6, _), (5, _), (4, _), (0, _), (1, _), (2, _), (3, _)]) (pc := 148) dX6_copyRow_148 (by decide) rfl ?_
    refine xw_aload_n (pc := 150) dX6_copyRow_150 4 rfl ?_
    refine xm_get (p := 10) (pc := 151) hM fd_X6_45 dX6_copyRow_151 rfl ?_
    refine xw_bipush (v := nI 12) (pc := 154) dX6_copyRow_154 (by decide +kernel) ?_
    refine xw_iload_n (pc := 156) dX6_copyRow_156 6 rfl ?_
    refine xn_imul (pc := 157) dX6_copyRow_157 ?_
    refine xw_iload (pc := 158) dX6_copyRow_158 2 rfl ?_
    refine xn_iadd (pc := 160) dX6_copyRow_160 ?_
    refine xw_fload (pc := 161) dX6_copyRow_161 0 rfl ?_
    refine xm_fast (pc := 163) hM dX6_copyRow_163 rfl (by omega) ?_
    refine xw_iload (pc := 164) dX6_copyRow_164 3 rfl ?_
    refine xw_fload (pc := 166) dX6_copyRow_166 0 rfl ?_
    refine xw_fconst1 (pc := 168) dX6_copyRow_168 ?_
    refine xw_fcmp (pc := 169) dX6_copyRow_169 ?_
    refine xw_if_le (pc := 170) 177 dX6_copyRow_170 rfl (fun hb170 => ?_) (fun hb170 => ?_)
    · refine xw_iconst (v := nI 0) (pc := 177) dX6_copyRow_177 rfl ?_
      refine xn_iadd (pc := 178) dX6_copyRow_178 ?_
      refine xw_istore (l' := [(4, _), (8, _), (6, _), (5, _), (0, _), (1, _), (2, _), (3, _)]) (pc := 179) dX6_copyRow_179 (by decide) rfl ?_
      refine xw_iinc (v := nI (k + 1)) (l' := [(5, _), (4, _), (8, _), (6, _), (0, _), (1, _), (2, _), (3, _)]) (pc := 181) dX6_copyRow_181 3 rfl (nI_add _ 1) (by decide) rfl ?_
      refine xw_goto (pc := 184) 78 dX6_copyRow_184 rfl ?_
      refine xw_pick (pc := 78) (l' := [(5, _), (4, _), (0, _), (1, _), (2, _), (3, _)]) [0, 1, 4, 5, 6, 7] rfl ?_
      have h9 := ih (k + 1) (by omega) (by omega)
      rw [← kpS_s] at h9
      first
      | (rw [show abF (fun j => scV (S 10 (12 * f + j)).toUInt32 q) (k + 1) = abF (fun j => scV (S 10 (12 * f + j)).toUInt32 q) k from if_pos hb170] at h9
         exact h9)
      | (rw [show abF (fun j => scV (S 10 (12 * f + j)).toUInt32 q) (k + 1) = abF (fun j => scV (S 10 (12 * f + j)).toUInt32 q) k + 1 from if_neg hb170] at h9
         exact h9)
    · refine xw_iconst (v := nI 1) (pc := 173) dX6_copyRow_173 rfl ?_
      refine xw_goto (pc := 174) 178 dX6_copyRow_174 rfl ?_
      refine xn_iadd (pc := 178) dX6_copyRow_178 ?_
      refine xw_istore (l' := [(4, _), (8, _), (6, _), (5, _), (0, _), (1, _), (2, _), (3, _)]) (pc := 179) dX6_copyRow_179 (by decide) rfl ?_
      refine xw_iinc (v := nI (k + 1)) (l' := [(5, _), (4, _), (8, _), (6, _), (0, _), (1, _), (2, _), (3, _)]) (pc := 181) dX6_copyRow_181 3 rfl (nI_add _ 1) (by decide) rfl ?_
      refine xw_goto (pc := 184) 78 dX6_copyRow_184 rfl ?_
      refine xw_pick (pc := 78) (l' := [(5, _), (4, _), (0, _), (1, _), (2, _), (3, _)]) [0, 1, 4, 5, 6, 7] rfl ?_
      have h9 := ih (k + 1) (by omega) (by omega)
      rw [← kpS_s] at h9
      first
      | (rw [show abF (fun j => scV (S 10 (12 * f + j)).toUInt32 q) (k + 1) = abF (fun j => scV (S 10 (12 * f + j)).toUInt32 q) k from if_pos hb170] at h9
         exact h9)
      | (rw [show abF (fun j => scV (S 10 (12 * f + j)).toUInt32 q) (k + 1) = abF (fun j => scV (S 10 (12 * f + j)).toUInt32 q) k + 1 from if_neg hb170] at h9
         exact h9)
theorem SP_X6_copyRow {d : Nat} {g : xG} {m : Nat} {S : xMS} (hM : xMod g m) {f t q many : Nat} (hf : f < 3) (ht : t < 3) (hq : q ≤ 1000) (hmy : many ≤ 12) (h11 : S 11 f = nI many) (hok : ∀ j, j < many → fOKu (S 10 (12 * f + j)).toUInt32) : XM M_X6_copyRow (d + 5) [.ref m, .int (nI f), .int (nI t), .int (nI q)] (xWith g m S) (xOne (some (.int (nI (abF (fun j => scV (S 10 (12 * f + j)).toUInt32 q) many)))) (xWith g m (kpS (mset (mset S 0 6 (nI 0)) 11 t (nI many)) t (fun j => scV (S 10 (12 * f + j)).toUInt32 q) many))) := by
  have hR1 : inR (nI f) (nI 0) (nI 2) = true := inR_nat' (by decide) (by omega)
  have hR2 : inR (nI t) (nI 0) (nI 2) = true := inR_nat' (by decide) (by omega)
  have hR3 : inR (nI q) (nI 0) (nI 1000) = true := inR_nat' (by decide) (by omega)
  have h11' : mset S 0 6 (nI 0) 11 f = nI many := (congrFun (mset_q (by decide)) f).trans h11
  refine xm_of (by decide +kernel) (Nat.le_of_ble_eq_true rfl) ?_
  show XW _ _ 0 [(0, _), (1, _), (2, _), (3, _)] [] _ _
  refine xw_aload_n (pc := 0) dX6_copyRow_0 0 rfl ?_
  refine xw_iload_n (pc := 1) dX6_copyRow_1 1 rfl ?_
  refine xw_callV (pc := 2) (xr_S (as := [_]) ok_X6_isRow rfl (by decide) q2649 q2650 dX6_copyRow_2 rfl rfl (Nat.le_of_ble_eq_true rfl)) ((show XM M_X6_isRow (d + 4) [.int (nI f)] _ (xOne (some (.int (bI true))) _) from by have h9 := SP_X6_isRow (d := d + 3) (g := (xWith g m S)) (v := (nI f)); rw [hR1] at h9; exact h9)) ?_
  refine xw_if_eq (pc := 5) 15 dX6_copyRow_5 rfl (fun hb => absurd hb (by decide)) (fun _ => ?_)
  refine xw_iload_n (pc := 8) dX6_copyRow_8 2 rfl ?_
  refine xw_callV (pc := 9) (xr_S (as := [_]) ok_X6_isRow rfl (by decide) q2649 q2650 dX6_copyRow_9 rfl rfl (Nat.le_of_ble_eq_true rfl)) ((show XM M_X6_isRow (d + 4) [.int (nI t)] _ (xOne (some (.int (bI true))) _) from by have h9 := SP_X6_isRow (d := d + 3) (g := (xWith g m S)) (v := (nI t)); rw [hR2] at h9; exact h9)) ?_
  refine xw_if_ne (pc := 12) 19 dX6_copyRow_12 rfl (fun _ => ?_) (fun hb => absurd hb (by decide))
  refine xw_iload_n (pc := 19) dX6_copyRow_19 3 rfl ?_
  refine xw_iconst (v := nI 0) (pc := 20) dX6_copyRow_20 rfl ?_
  refine xw_sipush (v := nI 1000) (pc := 21) dX6_copyRow_21 (by decide +kernel) ?_
  refine xw_callV (pc := 24) (xr_S (as := [_, _, _]) ok_X6_in rfl (by decide) q2364 q2365 dX6_copyRow_24 rfl rfl (Nat.le_of_ble_eq_true rfl)) ((show XM M_X6_in (d + 4) [.int (nI q), .int (nI 0), .int (nI 1000)] _ (xOne (some (.int (bI true))) _) from by have h9 := SP_X6_in (d := d + 4) (g := (xWith g m S)) (v := (nI q)) (lo := (nI 0)) (hi := (nI 1000)); rw [hR3] at h9; exact h9)) ?_
  refine xw_if_ne (pc := 27) 34 dX6_copyRow_27 rfl (fun _ => ?_) (fun hb => absurd hb (by decide))
  refine xw_aload_n (pc := 34) dX6_copyRow_34 0 rfl ?_
  refine xm_get (p := 11) (pc := 35) hM fd_X6_49 dX6_copyRow_35 rfl ?_
  refine xw_iload_n (pc := 38) dX6_copyRow_38 1 rfl ?_
  refine xm_ialdN (v := many) (pc := 39) hM dX6_copyRow_39 rfl (by omega) (by exact h11) ?_
  refine xw_if_ge (pc := 40) 47 dX6_copyRow_40 rfl (fun hb40 => ?_) (fun hb40 => ?_)
  rotate_left
  · exfalso
    replace hb40 : ¬ (0 ≤ many) := mt (nI_leI (a := 0) (b := many) (by omega) (by omega)).mpr hb40
    omega
  replace hb40 : 0 ≤ many := (nI_leI (a := 0) (b := many) (by omega) (by omega)).mp hb40
  refine xw_iconst (v := nI 0) (pc := 47) dX6_copyRow_47 rfl ?_
  refine xm_putI (pc := 48) hM fd_X6_62 (xfin_of (by decide) (by decide +kernel)) dX6_copyRow_48 ?_
  refine xw_aload_n (pc := 51) dX6_copyRow_51 0 rfl ?_
  refine xm_getN (k := 0) (pc := 52) hM fd_X6_62 dX6_copyRow_52 (by first | rfl | (simp [mset, mcpy]; done)) ?_
  refine xw_if_le (pc := 55) 60 dX6_copyRow_55 rfl (fun _ => ?_) (fun hb => absurd hb (by decide))
  refine xw_aload_n (pc := 60) dX6_copyRow_60 0 rfl ?_
  refine xm_get (p := 11) (pc := 61) hM fd_X6_49 dX6_copyRow_61 rfl ?_
  refine xw_iload_n (pc := 64) dX6_copyRow_64 2 rfl ?_
  refine xw_aload_n (pc := 65) dX6_copyRow_65 0 rfl ?_
  refine xm_get (p := 11) (pc := 66) hM fd_X6_49 dX6_copyRow_66 rfl ?_
  refine xw_iload_n (pc := 69) dX6_copyRow_69 1 rfl ?_
  refine xm_ialdN (v := many) (pc := 70) hM dX6_copyRow_70 rfl (by omega) (by exact h11') ?_
  refine xm_iast (pc := 71) hM dX6_copyRow_71 rfl (by omega) ?_
  refine xw_iconst (v := nI 0) (pc := 72) dX6_copyRow_72 rfl ?_
  refine xw_istore (l' := [(4, _), (0, _), (1, _), (2, _), (3, _)]) (pc := 73) dX6_copyRow_73 (by decide) rfl ?_
  refine xw_iconst (v := nI 0) (pc := 75) dX6_copyRow_75 rfl ?_
  refine xw_istore (l' := [(5, _), (4, _), (0, _), (1, _), (2, _), (3, _)]) (pc := 76) dX6_copyRow_76 (by decide) rfl ?_
  have h9 := lp_X6_copyRow (d := d) (S := S) hM hf ht hq hmy h11 hok (many + 1) 0 (by omega) (Nat.zero_le _)
  rw [kpS_0] at h9
  exact h9
theorem SP_X6_element_F1 {d : Nat} {g : xG} {m : Nat} {S : xMS} (hM : xMod g m) (a b : Int32) (ha : inR a (nI 0) (nI 2) = false) : XM M_X6_element (d + 5) [.ref m, .int a, .int b] (xWith g m S) (xOne (some (.int (nI 0))) (xWith g m (mset S 0 6 (nI 1)))) := by
  refine xm_of (by decide +kernel) (Nat.le_of_ble_eq_true rfl) ?_
  show XW _ _ 0 [(0, _), (1, _), (2, _)] [] _ _
  refine xw_aload_n (pc := 0) dX6_element_0 0 rfl ?_
  refine xw_iload_n (pc := 1) dX6_element_1 1 rfl ?_
  refine xw_callV (pc := 2) (xr_S (as := [_]) ok_X6_isRow rfl (by decide) q2649 q2650 dX6_element_2 rfl rfl (Nat.le_of_ble_eq_true rfl)) ((show XM M_X6_isRow (d + 4) [.int a] _ (xOne (some (.int (bI false))) _) from by have h9 := SP_X6_isRow (d := d + 3) (g := (xWith g m S)) (v := a); rw [ha] at h9; exact h9)) ?_
  refine xw_if_ne (pc := 5) 12 dX6_element_5 rfl (fun hb => absurd hb (by decide)) (fun _ => ?_)
  refine xw_iconst (v := nI 1) (pc := 8) dX6_element_8 rfl ?_
  refine xw_goto (pc := 9) 46 dX6_element_9 rfl ?_
  refine xm_putI (pc := 46) hM fd_X6_62 (xfin_of (by decide) (by decide +kernel)) dX6_element_46 ?_
  refine xw_aload_n (pc := 49) dX6_element_49 0 rfl ?_
  refine xm_getN (k := 1) (pc := 50) hM fd_X6_62 dX6_element_50 (by first | rfl | (simp [mset, mcpy]; done)) ?_
  refine xw_if_le (pc := 53) 60 dX6_element_53 rfl (fun hb => absurd hb (by decide)) (fun _ => ?_)
  refine xw_iconst (v := nI 0) (pc := 56) dX6_element_56 rfl ?_
  refine xw_goto (pc := 57) 74 dX6_element_57 rfl ?_
  refine xw_iret (pc := 74) .int dX6_element_74 rfl ?_ 
  exact ⟨rfl, rfl⟩
theorem SP_X6_element_F2 {d : Nat} {g : xG} {m : Nat} {S : xMS} (hM : xMod g m) {r : Nat} (hr : r < 3) (b : Int32) (hm : S 11 r < 0) : XM M_X6_element (d + 5) [.ref m, .int (nI r), .int b] (xWith g m S) (xOne (some (.int (nI 0))) (xWith g m (mset S 0 6 (nI 2)))) := by
  have hR : inR (nI r) (nI 0) (nI 2) = true := inR_nat' (by decide) (by omega)
  refine xm_of (by decide +kernel) (Nat.le_of_ble_eq_true rfl) ?_
  show XW _ _ 0 [(0, _), (1, _), (2, _)] [] _ _
  refine xw_aload_n (pc := 0) dX6_element_0 0 rfl ?_
  refine xw_iload_n (pc := 1) dX6_element_1 1 rfl ?_
  refine xw_callV (pc := 2) (xr_S (as := [_]) ok_X6_isRow rfl (by decide) q2649 q2650 dX6_element_2 rfl rfl (Nat.le_of_ble_eq_true rfl)) ((show XM M_X6_isRow (d + 4) [.int (nI r)] _ (xOne (some (.int (bI true))) _) from by have h9 := SP_X6_isRow (d := d + 3) (g := (xWith g m S)) (v := (nI r)); rw [hR] at h9; exact h9)) ?_
  refine xw_if_ne (pc := 5) 12 dX6_element_5 rfl (fun _ => ?_) (fun hb => absurd hb (by decide))
  refine xw_aload_n (pc := 12) dX6_element_12 0 rfl ?_
  refine xm_get (p := 11) (pc := 13) hM fd_X6_49 dX6_element_13 rfl ?_
  refine xw_iload_n (pc := 16) dX6_element_16 1 rfl ?_
  refine xm_iald (pc := 17) hM dX6_element_17 rfl (by omega) ?_
  refine xw_if_ge (pc := 18) 25 dX6_element_18 rfl (fun hb18 => ?_) (fun hb18 => ?_)
  · exfalso
    exact absurd hm (Int32.not_lt.mpr hb18)
  refine xw_iconst (v := nI 2) (pc := 21) dX6_element_21 rfl ?_
  refine xw_goto (pc := 22) 46 dX6_element_22 rfl ?_
  refine xm_putI (pc := 46) hM fd_X6_62 (xfin_of (by decide) (by decide +kernel)) dX6_element_46 ?_
  refine xw_aload_n (pc := 49) dX6_element_49 0 rfl ?_
  refine xm_getN (k := 2) (pc := 50) hM fd_X6_62 dX6_element_50 (by first | rfl | (simp [mset, mcpy]; done)) ?_
  refine xw_if_le (pc := 53) 60 dX6_element_53 rfl (fun hb => absurd hb (by decide)) (fun _ => ?_)
  refine xw_iconst (v := nI 0) (pc := 56) dX6_element_56 rfl ?_
  refine xw_goto (pc := 57) 74 dX6_element_57 rfl ?_
  refine xw_iret (pc := 74) .int dX6_element_74 rfl ?_ 
  exact ⟨rfl, rfl⟩
theorem SP_X6_element_F3 {d : Nat} {g : xG} {m : Nat} {S : xMS} (hM : xMod g m) {r many : Nat} (hr : r < 3) (b : Int32) (hmy : many ≤ 12) (h11 : S 11 r = nI many) (hb : inR b (nI 0) (nI many - nI 1) = false) : XM M_X6_element (d + 5) [.ref m, .int (nI r), .int b] (xWith g m S) (xOne (some (.int (nI 0))) (xWith g m (mset S 0 6 (nI 3)))) := by
  have hR : inR (nI r) (nI 0) (nI 2) = true := inR_nat' (by decide) (by omega)
  refine xm_of (by decide +kernel) (Nat.le_of_ble_eq_true rfl) ?_
  show XW _ _ 0 [(0, _), (1, _), (2, _)] [] _ _
  refine xw_aload_n (pc := 0) dX6_element_0 0 rfl ?_
  refine xw_iload_n (pc := 1) dX6_element_1 1 rfl ?_
  refine xw_callV (pc := 2) (xr_S (as := [_]) ok_X6_isRow rfl (by decide) q2649 q2650 dX6_element_2 rfl rfl (Nat.le_of_ble_eq_true rfl)) ((show XM M_X6_isRow (d + 4) [.int (nI r)] _ (xOne (some (.int (bI true))) _) from by have h9 := SP_X6_isRow (d := d + 3) (g := (xWith g m S)) (v := (nI r)); rw [hR] at h9; exact h9)) ?_
  refine xw_if_ne (pc := 5) 12 dX6_element_5 rfl (fun _ => ?_) (fun hb => absurd hb (by decide))
  refine xw_aload_n (pc := 12) dX6_element_12 0 rfl ?_
  refine xm_get (p := 11) (pc := 13) hM fd_X6_49 dX6_element_13 rfl ?_
  refine xw_iload_n (pc := 16) dX6_element_16 1 rfl ?_
  refine xm_ialdN (v := many) (pc := 17) hM dX6_element_17 rfl (by omega) (by exact h11) ?_
  refine xw_if_ge (pc := 18) 25 dX6_element_18 rfl (fun hb18 => ?_) (fun hb18 => ?_)
  rotate_left
  · exfalso
    replace hb18 : ¬ (0 ≤ many) := mt (nI_leI (a := 0) (b := many) (by omega) (by omega)).mpr hb18
    omega
  replace hb18 : 0 ≤ many := (nI_leI (a := 0) (b := many) (by omega) (by omega)).mp hb18
  refine xw_iload_n (pc := 25) dX6_element_25 2 rfl ?_
  refine xw_iconst (v := nI 0) (pc := 26) dX6_element_26 rfl ?_
  refine xw_aload_n (pc := 27) dX6_element_27 0 rfl ?_
  refine xm_get (p := 11) (pc := 28) hM fd_X6_49 dX6_element_28 rfl ?_
  refine xw_iload_n (pc := 31) dX6_element_31 1 rfl ?_
  refine xm_ialdN (v := many) (pc := 32) hM dX6_element_32 rfl (by omega) (by exact h11) ?_
  refine xw_iconst (v := nI 1) (pc := 33) dX6_element_33 rfl ?_
  refine xw_isub (pc := 34) dX6_element_34 ?_
  refine xw_callV (pc := 35) (xr_S (as := [_, _, _]) ok_X6_in rfl (by decide) q2364 q2365 dX6_element_35 rfl rfl (Nat.le_of_ble_eq_true rfl)) ((show XM M_X6_in (d + 4) [.int b, .int (nI 0), .int (nI many - nI 1)] _ (xOne (some (.int (bI false))) _) from by have h9 := SP_X6_in (d := d + 4) (g := (xWith g m S)) (v := b) (lo := (nI 0)) (hi := (nI many - nI 1)); rw [hb] at h9; exact h9)) ?_
  refine xw_if_ne (pc := 38) 45 dX6_element_38 rfl (fun hb => absurd hb (by decide)) (fun _ => ?_)
  refine xw_iconst (v := nI 3) (pc := 41) dX6_element_41 rfl ?_
  refine xw_goto (pc := 42) 46 dX6_element_42 rfl ?_
  refine xm_putI (pc := 46) hM fd_X6_62 (xfin_of (by decide) (by decide +kernel)) dX6_element_46 ?_
  refine xw_aload_n (pc := 49) dX6_element_49 0 rfl ?_
  refine xm_getN (k := 3) (pc := 50) hM fd_X6_62 dX6_element_50 (by first | rfl | (simp [mset, mcpy]; done)) ?_
  refine xw_if_le (pc := 53) 60 dX6_element_53 rfl (fun hb => absurd hb (by decide)) (fun _ => ?_)
  refine xw_iconst (v := nI 0) (pc := 56) dX6_element_56 rfl ?_
  refine xw_goto (pc := 57) 74 dX6_element_57 rfl ?_
  refine xw_iret (pc := 74) .int dX6_element_74 rfl ?_ 
  exact ⟨rfl, rfl⟩
theorem SP_X6_element {d : Nat} {g : xG} {m : Nat} {S : xMS} (hM : xMod g m) {r many j : Nat} (hr : r < 3) (hmy : many ≤ 12) (h11 : S 11 r = nI many) (hj : j < many) (hok : fOKu (S 10 (12 * r + j)).toUInt32) : XM M_X6_element (d + 5) [.ref m, .int (nI r), .int (nI j)] (xWith g m S) (xOne (some (.int (S 10 (12 * r + j)))) (xWith g m (mset S 0 6 (nI 0)))) := by
  have hR : inR (nI r) (nI 0) (nI 2) = true := inR_nat' (by decide) (by omega)
  have hI : inR (nI j) (nI 0) (nI many - nI 1) = true := inR_k (by omega) hj
  have eo : fOKu (mset S 0 6 (nI 0) 10 (12 * r + j)).toUInt32 := by rw [mset_q (by decide)]; exact hok
  refine xm_of (by decide +kernel) (Nat.le_of_ble_eq_true rfl) ?_
  show XW _ _ 0 [(0, _), (1, _), (2, _)] [] _ _
  refine xw_aload_n (pc := 0) dX6_element_0 0 rfl ?_
  refine xw_iload_n (pc := 1) dX6_element_1 1 rfl ?_
  refine xw_callV (pc := 2) (xr_S (as := [_]) ok_X6_isRow rfl (by decide) q2649 q2650 dX6_element_2 rfl rfl (Nat.le_of_ble_eq_true rfl)) ((show XM M_X6_isRow (d + 4) [.int (nI r)] _ (xOne (some (.int (bI true))) _) from by have h9 := SP_X6_isRow (d := d + 3) (g := (xWith g m S)) (v := (nI r)); rw [hR] at h9; exact h9)) ?_
  refine xw_if_ne (pc := 5) 12 dX6_element_5 rfl (fun _ => ?_) (fun hb => absurd hb (by decide))
  refine xw_aload_n (pc := 12) dX6_element_12 0 rfl ?_
  refine xm_get (p := 11) (pc := 13) hM fd_X6_49 dX6_element_13 rfl ?_
  refine xw_iload_n (pc := 16) dX6_element_16 1 rfl ?_
  refine xm_ialdN (v := many) (pc := 17) hM dX6_element_17 rfl (by omega) (by exact h11) ?_
  refine xw_if_ge (pc := 18) 25 dX6_element_18 rfl (fun hb18 => ?_) (fun hb18 => ?_)
  rotate_left
  · exfalso
    replace hb18 : ¬ (0 ≤ many) := mt (nI_leI (a := 0) (b := many) (by omega) (by omega)).mpr hb18
    omega
  replace hb18 : 0 ≤ many := (nI_leI (a := 0) (b := many) (by omega) (by omega)).mp hb18
  refine xw_iload_n (pc := 25) dX6_element_25 2 rfl ?_
  refine xw_iconst (v := nI 0) (pc := 26) dX6_element_26 rfl ?_
  refine xw_aload_n (pc := 27) dX6_element_27 0 rfl ?_
  refine xm_get (p := 11) (pc := 28) hM fd_X6_49 dX6_element_28 rfl ?_
  refine xw_iload_n (pc := 31) dX6_element_31 1 rfl ?_
  refine xm_ialdN (v := many) (pc := 32) hM dX6_element_32 rfl (by omega) (by exact h11) ?_
  refine xw_iconst (v := nI 1) (pc := 33) dX6_element_33 rfl ?_
  refine xw_isub (pc := 34) dX6_element_34 ?_
  refine xw_callV (pc := 35) (xr_S (as := [_, _, _]) ok_X6_in rfl (by decide) q2364 q2365 dX6_element_35 rfl rfl (Nat.le_of_ble_eq_true rfl)) ((show XM M_X6_in (d + 4) [.int (nI j), .int (nI 0), .int (nI many - nI 1)] _ (xOne (some (.int (bI true))) _) from by have h9 := SP_X6_in (d := d + 4) (g := (xWith g m S)) (v := (nI j)) (lo := (nI 0)) (hi := (nI many - nI 1)); rw [hI] at h9; exact h9)) ?_
  refine xw_if_ne (pc := 38) 45 dX6_element_38 rfl (fun _ => ?_) (fun hb => absurd hb (by decide))
  refine xw_iconst (v := nI 0) (pc := 45) dX6_element_45 rfl ?_
  refine xm_putI (pc := 46) hM fd_X6_62 (xfin_of (by decide) (by decide +kernel)) dX6_element_46 ?_
  refine xw_aload_n (pc := 49) dX6_element_49 0 rfl ?_
  refine xm_getN (k := 0) (pc := 50) hM fd_X6_62 dX6_element_50 (by first | rfl | (simp [mset, mcpy]; done)) ?_
  refine xw_if_le (pc := 53) 60 dX6_element_53 rfl (fun _ => ?_) (fun hb => absurd hb (by decide))
  refine xw_aload_n (pc := 60) dX6_element_60 0 rfl ?_
  refine xm_get (p := 10) (pc := 61) hM fd_X6_45 dX6_element_61 rfl ?_
  refine xw_bipush (v := nI 12) (pc := 64) dX6_element_64 (by decide +kernel) ?_
  refine xw_iload_n (pc := 66) dX6_element_66 1 rfl ?_
  refine xn_imul (pc := 67) dX6_element_67 ?_
  refine xw_iload_n (pc := 68) dX6_element_68 2 rfl ?_
  refine xn_iadd (pc := 69) dX6_element_69 ?_
  refine xm_fald (pc := 70) hM dX6_element_70 rfl (by omega) ?_
  refine xw_callV (pc := 71) (xr_S (as := [_]) ok_J26_floatToIntBits rfl (by decide) q2662 q1785 dX6_element_71 rfl rfl (Nat.le_of_ble_eq_true rfl)) (SP_J26_floatToIntBits eo) ?_
  refine xw_iret (pc := 74) .int dX6_element_74 rfl ?_ 
  exact ⟨by rw [show mset S 0 6 (nI 0) 10 (12 * r + j) = S 10 (12 * r + j) from congrFun (mset_q (by decide)) _]; rfl, rfl⟩
theorem SP_X6_total_F1 {d : Nat} {g : xG} {m : Nat} {S : xMS} (hM : xMod g m) (a : Int32) (ha : inR a (nI 0) (nI 2) = false) : XM M_X6_total (d + 5) [.ref m, .int a] (xWith g m S) (xOne (some (.double FP.dconst0)) (xWith g m (mset S 0 6 (nI 1)))) := by
  refine xm_of (by decide +kernel) (Nat.le_of_ble_eq_true rfl) ?_
  show XW _ _ 0 [(0, _), (1, _)] [] _ _
  refine xw_aload_n (pc := 0) dX6_total_0 0 rfl ?_
  refine xw_iload_n (pc := 1) dX6_total_1 1 rfl ?_
  refine xw_callV (pc := 2) (xr_S (as := [_]) ok_X6_isRow rfl (by decide) q2649 q2650 dX6_total_2 rfl rfl (Nat.le_of_ble_eq_true rfl)) ((show XM M_X6_isRow (d + 4) [.int a] _ (xOne (some (.int (bI false))) _) from by have h9 := SP_X6_isRow (d := d + 3) (g := (xWith g m S)) (v := a); rw [ha] at h9; exact h9)) ?_
  refine xw_if_ne (pc := 5) 12 dX6_total_5 rfl (fun hb => absurd hb (by decide)) (fun _ => ?_)
  refine xw_iconst (v := nI 1) (pc := 8) dX6_total_8 rfl ?_
  refine xw_goto (pc := 9) 26 dX6_total_9 rfl ?_
  refine xm_putI (pc := 26) hM fd_X6_62 (xfin_of (by decide) (by decide +kernel)) dX6_total_26 ?_
  refine xw_dconst0 (pc := 29) dX6_total_29 ?_
  refine xw_dstore_n (l' := [(2, _), (0, _), (1, _)]) (pc := 30) dX6_total_30 rfl (by decide) rfl ?_
  refine xw_iconst (v := nI 0) (pc := 31) dX6_total_31 rfl ?_
  refine xw_istore (l' := [(4, _), (2, _), (0, _), (1, _)]) (pc := 32) dX6_total_32 (by decide) rfl ?_
  refine xw_aload_n (pc := 34) dX6_total_34 2 rfl ?_
  refine xm_getN (k := 1) (pc := 35) hM fd_X6_62 dX6_total_35 (by first | rfl | (simp [mset, mcpy]; done)) ?_
  refine xw_if_ne (pc := 38) 90 dX6_total_38 rfl (fun _ => ?_) (fun hb => absurd hb (by decide))
  refine xw_dload_n (pc := 90) dX6_total_90 1 rfl ?_
  refine xw_dret (pc := 91) dX6_total_91 rfl ?_
  exact ⟨rfl, rfl⟩
theorem SP_X6_total_F2 {d : Nat} {g : xG} {m : Nat} {S : xMS} (hM : xMod g m) {r : Nat} (hr : r < 3) (hm : S 11 r < 0) : XM M_X6_total (d + 5) [.ref m, .int (nI r)] (xWith g m S) (xOne (some (.double FP.dconst0)) (xWith g m (mset S 0 6 (nI 2)))) := by
  have hR : inR (nI r) (nI 0) (nI 2) = true := inR_nat' (by decide) (by omega)
  refine xm_of (by decide +kernel) (Nat.le_of_ble_eq_true rfl) ?_
  show XW _ _ 0 [(0, _), (1, _)] [] _ _
  refine xw_aload_n (pc := 0) dX6_total_0 0 rfl ?_
  refine xw_iload_n (pc := 1) dX6_total_1 1 rfl ?_
  refine xw_callV (pc := 2) (xr_S (as := [_]) ok_X6_isRow rfl (by decide) q2649 q2650 dX6_total_2 rfl rfl (Nat.le_of_ble_eq_true rfl)) ((show XM M_X6_isRow (d + 4) [.int (nI r)] _ (xOne (some (.int (bI true))) _) from by have h9 := SP_X6_isRow (d := d + 3) (g := (xWith g m S)) (v := (nI r)); rw [hR] at h9; exact h9)) ?_
  refine xw_if_ne (pc := 5) 12 dX6_total_5 rfl (fun _ => ?_) (fun hb => absurd hb (by decide))
  refine xw_aload_n (pc := 12) dX6_total_12 0 rfl ?_
  refine xm_get (p := 11) (pc := 13) hM fd_X6_49 dX6_total_13 rfl ?_
  refine xw_iload_n (pc := 16) dX6_total_16 1 rfl ?_
  refine xm_iald (pc := 17) hM dX6_total_17 rfl (by omega) ?_
  refine xw_if_ge (pc := 18) 25 dX6_total_18 rfl (fun hb18 => ?_) (fun hb18 => ?_)
  · exfalso
    exact absurd hm (Int32.not_lt.mpr hb18)
  refine xw_iconst (v := nI 2) (pc := 21) dX6_total_21 rfl ?_
  refine xw_goto (pc := 22) 26 dX6_total_22 rfl ?_
  refine xm_putI (pc := 26) hM fd_X6_62 (xfin_of (by decide) (by decide +kernel)) dX6_total_26 ?_
  refine xw_dconst0 (pc := 29) dX6_total_29 ?_
  refine xw_dstore_n (l' := [(2, _), (0, _), (1, _)]) (pc := 30) dX6_total_30 rfl (by decide) rfl ?_
  refine xw_iconst (v := nI 0) (pc := 31) dX6_total_31 rfl ?_
  refine xw_istore (l' := [(4, _), (2, _), (0, _), (1, _)]) (pc := 32) dX6_total_32 (by decide) rfl ?_
  refine xw_aload_n (pc := 34) dX6_total_34 2 rfl ?_
  refine xm_getN (k := 2) (pc := 35) hM fd_X6_62 dX6_total_35 (by first | rfl | (simp [mset, mcpy]; done)) ?_
  refine xw_if_ne (pc := 38) 90 dX6_total_38 rfl (fun _ => ?_) (fun hb => absurd hb (by decide))
  refine xw_dload_n (pc := 90) dX6_total_90 1 rfl ?_
  refine xw_dret (pc := 91) dX6_total_91 rfl ?_
  exact ⟨rfl, rfl⟩
theorem lp_X6_total {d : Nat} {g : xG} {m : Nat} {S : xMS} (hM : xMod g m) {r many : Nat} (hr : r < 3) (hmy : many ≤ 12) (h11 : S 11 r = nI many) (h6 : S 0 6 = nI 0) (hok : ∀ j, j < many → fOKu (S 10 (12 * r + j)).toUInt32) : ∀ (j k : Nat) (s : UInt64), k + j = many → dZ s → XW M_X6_total (d + 5) 34 [(4, .int (nI k)), (2, .double s), (0, .ref m), (1, .int (nI r))] [] (xWith g m S) (xOne (some (.double (toF (fun j => (S 10 (12 * r + j)).toUInt32) j k s))) (xWith g m S)) := by
  intro j
  induction j with
  | zero =>
    intro k s hk hs
    refine xw_aload_n (pc := 34) dX6_total_34 2 rfl ?_
    refine xm_getN (k := 0) (pc := 35) hM fd_X6_62 dX6_total_35 (by exact h6) ?_
    refine xw_if_ne (pc := 38) 90 dX6_total_38 rfl (fun hb => absurd hb (by decide)) (fun _ => ?_)
    refine xw_iload (pc := 41) dX6_total_41 0 rfl ?_
    refine xw_aload_n (pc := 43) dX6_total_43 2 rfl ?_
    refine xm_get (p := 11) (pc := 44) hM fd_X6_49 dX6_total_44 rfl ?_
    refine xw_iload_n (pc := 47) dX6_total_47 3 rfl ?_
    refine xm_ialdN (v := many) (pc := 48) hM dX6_total_48 rfl (by omega) (by exact h11) ?_
    refine xw_icmp_ge (pc := 49) 90 dX6_total_49 rfl (fun hb49 => ?_) (fun hb49 => ?_)
    rotate_left
    · exfalso
      replace hb49 : ¬ (many ≤ k) := mt (nI_leI (a := many) (b := k) (by omega) (by omega)).mpr hb49
      omega
    replace hb49 : many ≤ k := (nI_leI (a := many) (b := k) (by omega) (by omega)).mp hb49
    refine xw_dload_n (pc := 90) dX6_total_90 1 rfl ?_
    refine xw_dret (pc := 91) dX6_total_91 rfl ?_
    exact ⟨rfl, rfl⟩
  | succ j ih =>
    intro k s hk hs
    have hkm : k < many := by omega
    have ho := hok k hkm
    have hT : toF (fun j => (S 10 (12 * r + j)).toUInt32) (j + 1) k s = if (S 10 (12 * r + k)).toUInt32 = 2143289344 then 9221120237041090560 else toF (fun j => (S 10 (12 * r + j)).toUInt32) j (k + 1) (FP.dadd s (FP.f2d (S 10 (12 * r + k)).toUInt32)) := rfl
    rw [hT]
    refine xw_aload_n (pc := 34) dX6_total_34 2 rfl ?_
    refine xm_getN (k := 0) (pc := 35) hM fd_X6_62 dX6_total_35 (by exact h6) ?_
    refine xw_if_ne (pc := 38) 90 dX6_total_38 rfl (fun hb => absurd hb (by decide)) (fun _ => ?_)
    refine xw_iload (pc := 41) dX6_total_41 0 rfl ?_
    refine xw_aload_n (pc := 43) dX6_total_43 2 rfl ?_
    refine xm_get (p := 11) (pc := 44) hM fd_X6_49 dX6_total_44 rfl ?_
    refine xw_iload_n (pc := 47) dX6_total_47 3 rfl ?_
    refine xm_ialdN (v := many) (pc := 48) hM dX6_total_48 rfl (by omega) (by exact h11) ?_
    refine xw_icmp_ge (pc := 49) 90 dX6_total_49 rfl (fun hb49 => ?_) (fun hb49 => ?_)
    · exfalso
      replace hb49 : many ≤ k := (nI_leI (a := many) (b := k) (by omega) (by omega)).mp hb49
      omega
    replace hb49 : ¬ (many ≤ k) := mt (nI_leI (a := many) (b := k) (by omega) (by omega)).mpr hb49
    refine xw_aload_n (pc := 52) dX6_total_52 2 rfl ?_
    refine xm_get (p := 10) (pc := 53) hM fd_X6_45 dX6_total_53 rfl ?_
    refine xw_bipush (v := nI 12) (pc := 56) dX6_total_56 (by decide +kernel) ?_
    refine xw_iload_n (pc := 58) dX6_total_58 3 rfl ?_
    refine xn_imul (pc := 59) dX6_total_59 ?_
    refine xw_iload (pc := 60) dX6_total_60 0 rfl ?_
    refine xn_iadd (pc := 62) dX6_total_62 ?_
    refine xm_fald (pc := 63) hM dX6_total_63 rfl (by omega) ?_
    refine xw_fstore (l' := [(5, _), (4, _), (2, _), (0, _), (1, _)]) (pc := 64) dX6_total_64 (by decide) rfl ?_
    refine xw_fload (pc := 66) dX6_total_66 0 rfl ?_
    refine xw_fload (pc := 68) dX6_total_68 0 rfl ?_
    refine xw_fcmp (pc := 70) dX6_total_70 ?_
    refine xw_if_eq (pc := 71) 78 dX6_total_71 rfl (fun hb71 => ?_) (fun hb71 => ?_)
    · have hnn := (cv_selfo ho).mp hb71
      have hz := ho.nn hnn
      rw [if_neg hnn]
      refine xw_dload_n (pc := 78) dX6_total_78 2 rfl ?_
      refine xw_fload (pc := 79) dX6_total_79 0 rfl ?_
      refine xw_f2d (pc := 81) dX6_total_81 (by exact (f2d_Z hz).n64) ?_
      refine xw_dadd (pc := 82) dX6_total_82 (by exact (dadd_Z hs (f2d_Z hz)).n64) ?_
      refine xw_dstore_n (l' := [(2, _), (5, _), (4, _), (0, _), (1, _)]) (pc := 83) dX6_total_83 rfl (by decide) rfl ?_
      refine xw_iinc (v := nI (k + 1)) (l' := [(4, _), (2, _), (5, _), (0, _), (1, _)]) (pc := 84) dX6_total_84 2 rfl (nI_add _ 1) (by decide) rfl ?_
      refine xw_goto (pc := 87) 34 dX6_total_87 rfl ?_
      refine xw_pick (pc := 34) (l' := [(4, _), (2, _), (0, _), (1, _)]) [0, 1, 3, 4] rfl ?_
      exact ih (k + 1) _ (by omega) (dadd_Z hs (f2d_Z hz))
    · refine xw_ldc2d (pc := 74) dX6_total_74 q2667 ?_
      refine xw_dret (pc := 77) dX6_total_77 rfl ?_
      exact ⟨by rw [if_pos (Decidable.byContradiction (fun h => hb71 ((cv_selfo ho).mpr h)))], rfl⟩
theorem SP_X6_total {d : Nat} {g : xG} {m : Nat} {S : xMS} (hM : xMod g m) {r many : Nat} (hr : r < 3) (hmy : many ≤ 12) (h11 : S 11 r = nI many) (hok : ∀ j, j < many → fOKu (S 10 (12 * r + j)).toUInt32) : XM M_X6_total (d + 5) [.ref m, .int (nI r)] (xWith g m S) (xOne (some (.double (toF (fun j => (S 10 (12 * r + j)).toUInt32) many 0 FP.dconst0))) (xWith g m (mset S 0 6 (nI 0)))) := by
  have hR : inR (nI r) (nI 0) (nI 2) = true := inR_nat' (by decide) (by omega)
  have e10 : (mset S 0 6 (nI 0)) 10 = S 10 := mset_q (by decide)
  have e11 : (mset S 0 6 (nI 0)) 11 = S 11 := mset_q (by decide)
  refine xm_of (by decide +kernel) (Nat.le_of_ble_eq_true rfl) ?_
  show XW _ _ 0 [(0, _), (1, _)] [] _ _
  refine xw_aload_n (pc := 0) dX6_total_0 0 rfl ?_
  refine xw_iload_n (pc := 1) dX6_total_1 1 rfl ?_
  refine xw_callV (pc := 2) (xr_S (as := [_]) ok_X6_isRow rfl (by decide) q2649 q2650 dX6_total_2 rfl rfl (Nat.le_of_ble_eq_true rfl)) ((show XM M_X6_isRow (d + 4) [.int (nI r)] _ (xOne (some (.int (bI true))) _) from by have h9 := SP_X6_isRow (d := d + 3) (g := (xWith g m S)) (v := (nI r)); rw [hR] at h9; exact h9)) ?_
  refine xw_if_ne (pc := 5) 12 dX6_total_5 rfl (fun _ => ?_) (fun hb => absurd hb (by decide))
  refine xw_aload_n (pc := 12) dX6_total_12 0 rfl ?_
  refine xm_get (p := 11) (pc := 13) hM fd_X6_49 dX6_total_13 rfl ?_
  refine xw_iload_n (pc := 16) dX6_total_16 1 rfl ?_
  refine xm_ialdN (v := many) (pc := 17) hM dX6_total_17 rfl (by omega) (by exact h11) ?_
  refine xw_if_ge (pc := 18) 25 dX6_total_18 rfl (fun hb18 => ?_) (fun hb18 => ?_)
  rotate_left
  · exfalso
    replace hb18 : ¬ (0 ≤ many) := mt (nI_leI (a := 0) (b := many) (by omega) (by omega)).mpr hb18
    omega
  replace hb18 : 0 ≤ many := (nI_leI (a := 0) (b := many) (by omega) (by omega)).mp hb18
  refine xw_iconst (v := nI 0) (pc := 25) dX6_total_25 rfl ?_
  refine xm_putI (pc := 26) hM fd_X6_62 (xfin_of (by decide) (by decide +kernel)) dX6_total_26 ?_
  refine xw_dconst0 (pc := 29) dX6_total_29 ?_
  refine xw_dstore_n (l' := [(2, _), (0, _), (1, _)]) (pc := 30) dX6_total_30 rfl (by decide) rfl ?_
  refine xw_iconst (v := nI 0) (pc := 31) dX6_total_31 rfl ?_
  refine xw_istore (l' := [(4, _), (2, _), (0, _), (1, _)]) (pc := 32) dX6_total_32 (by decide) rfl ?_
  have h9 := lp_X6_total (d := d) (S := mset S 0 6 (nI 0)) hM hr hmy (by rw [e11]; exact h11) (by unfold mset; rw [if_pos ⟨rfl, rfl⟩]) (by rw [e10]; exact hok) many 0 FP.dconst0 (by omega) dZ_0
  rw [e10] at h9
  exact h9
