/-! CLASS 24: small helpers; a case that is looked at -/
set_option maxRecDepth 100000
theorem nI_ne {v : Int32} {k : Nat} (hk : k < 1000) (h : ¬ v = nI k) : v.toInt ≠ (k : Int) := fun e => h (Int32.toInt_inj.mp (by rw [e, nI_toInt (by omega)]))
theorem xt_out3 {v : Int32} (h0 : ¬ v = nI 0) (h1 : ¬ v = nI 1) (h2 : ¬ v = nI 2) : v.toInt < 0 ∨ 2 < v.toInt := by
  have a0 := nI_ne (by decide) h0
  have a1 := nI_ne (by decide) h1
  have a2 := nI_ne (by decide) h2
  omega
theorem SP_X1_effectOf {d : Nat} {g : xG} {v : Int32} : XM M_X1_effectOf d [.int v] g (xOne (some (xref (effO g v))) g) := by
  refine xm_of (by decide +kernel) (Nat.le_of_ble_eq_true rfl) ?_
  show XW _ _ 0 [(0, _)] [] _ _
  refine xw_iload_n (pc := 0) dX1_effectOf_0 0 rfl ?_
  by_cases hs1_0 : v = nI 0
  · rw [hs1_0]
    refine xw_tableIn (x := nI 0) (pc := 1) 28 dX1_effectOf_1 (by decide) (by decide) rfl rfl ?_
    refine xw_gets (i := 0) (pc := 28) dX1_effectOf_28 rfl q1210 ?_
    refine xw_aret (pc := 31) (.object "PolicyNotation$Effect") dX1_effectOf_31 rfl ?_
    first
    | exact ⟨rfl, rfl⟩
    | (unfold effO; rw [if_neg hs1_0, if_neg hs1_1, if_neg hs1_2]; exact ⟨rfl, rfl⟩)
  by_cases hs1_1 : v = nI 1
  · rw [hs1_1]
    refine xw_tableIn (x := nI 1) (pc := 1) 32 dX1_effectOf_1 (by decide) (by decide) rfl rfl ?_
    refine xw_gets (i := 1) (pc := 32) dX1_effectOf_32 rfl q1211 ?_
    refine xw_aret (pc := 35) (.object "PolicyNotation$Effect") dX1_effectOf_35 rfl ?_
    first
    | exact ⟨rfl, rfl⟩
    | (unfold effO; rw [if_neg hs1_0, if_neg hs1_1, if_neg hs1_2]; exact ⟨rfl, rfl⟩)
  by_cases hs1_2 : v = nI 2
  · rw [hs1_2]
    refine xw_tableIn (x := nI 2) (pc := 1) 36 dX1_effectOf_1 (by decide) (by decide) rfl rfl ?_
    refine xw_gets (i := 2) (pc := 36) dX1_effectOf_36 rfl q1213 ?_
    refine xw_aret (pc := 39) (.object "PolicyNotation$Effect") dX1_effectOf_39 rfl ?_
    first
    | exact ⟨rfl, rfl⟩
    | (unfold effO; rw [if_neg hs1_0, if_neg hs1_1, if_neg hs1_2]; exact ⟨rfl, rfl⟩)
  refine xw_tableOut (pc := 1) 40 dX1_effectOf_1 (by first | (rw [nI_toInt (by omega)]; right; omega) | exact xt_out3 hs1_0 hs1_1 hs1_2) rfl ?_
  refine xw_null (pc := 40) dX1_effectOf_40 ?_
  refine xw_aret (pc := 41) (.object "PolicyNotation$Effect") dX1_effectOf_41 rfl ?_
  first
  | exact ⟨rfl, rfl⟩
  | (unfold effO; rw [if_neg hs1_0, if_neg hs1_1, if_neg hs1_2]; exact ⟨rfl, rfl⟩)

theorem SP_J17_ordinal {d : Nat} {g : xG} {j : Nat} (hj : j < 3) : XM M_J17_ordinal d [.ref ((xE g).2.2.1 j)] g (xOne (some (.int (nI j))) g) := by
  refine xm_of (by decide +kernel) (Nat.le_of_ble_eq_true rfl) ?_
  show XW _ _ 0 [(0, _)] [] _ _
  refine xw_aload_n (pc := 0) dJ17_ordinal_0 0 rfl ?_
  refine xw_ordinal (pc := 1) hj dJ17_ordinal_1 q2846 ?_
  refine xw_iret (pc := 4) .int dJ17_ordinal_4 rfl ?_ 
  exact ⟨rfl, rfl⟩

theorem SP_X4_number0 {d : Nat} {g : xG} (hc : xtag g ((xE g).2.2.1 0) = 61) : XM M_X4_number (d + 1) [.ref ((xE g).2.2.1 0)] g (xOne (some (.int (nI 0))) g) := by
  refine xm_of (by decide +kernel) (Nat.le_of_ble_eq_true rfl) ?_
  show XW _ _ 0 [(0, _)] [] _ _
  refine xw_aload_n (pc := 0) dX4_number_0 0 rfl ?_
  refine xw_callV (pc := 1) (xr_U (as := []) ok_J17_ordinal rfl (by decide) q1199 q1200 (Or.inl q1201) ⟨by decide, by decide, by decide +kernel⟩ q1205 (by rw [hc]; rfl) (by rw [hc]; exact q1202) dX4_number_1 rfl rfl (Nat.le_of_ble_eq_true rfl)) (SP_J17_ordinal (j := 0) (by decide)) ?_
  refine xw_iret (pc := 4) .int dX4_number_4 rfl ?_ 
  exact ⟨rfl, rfl⟩

theorem SP_X4_number1 {d : Nat} {g : xG} (hc : xtag g ((xE g).2.2.1 1) = 62) : XM M_X4_number (d + 1) [.ref ((xE g).2.2.1 1)] g (xOne (some (.int (nI 1))) g) := by
  refine xm_of (by decide +kernel) (Nat.le_of_ble_eq_true rfl) ?_
  show XW _ _ 0 [(0, _)] [] _ _
  refine xw_aload_n (pc := 0) dX4_number_0 0 rfl ?_
  refine xw_callV (pc := 1) (xr_U (as := []) ok_J17_ordinal rfl (by decide) q1199 q1200 (Or.inl q1201) ⟨by decide, by decide, by decide +kernel⟩ q1205 (by rw [hc]; rfl) (by rw [hc]; exact q1203) dX4_number_1 rfl rfl (Nat.le_of_ble_eq_true rfl)) (SP_J17_ordinal (j := 1) (by decide)) ?_
  refine xw_iret (pc := 4) .int dX4_number_4 rfl ?_ 
  exact ⟨rfl, rfl⟩

theorem SP_X4_number2 {d : Nat} {g : xG} (hc : xtag g ((xE g).2.2.1 2) = 63) : XM M_X4_number (d + 1) [.ref ((xE g).2.2.1 2)] g (xOne (some (.int (nI 2))) g) := by
  refine xm_of (by decide +kernel) (Nat.le_of_ble_eq_true rfl) ?_
  show XW _ _ 0 [(0, _)] [] _ _
  refine xw_aload_n (pc := 0) dX4_number_0 0 rfl ?_
  refine xw_callV (pc := 1) (xr_U (as := []) ok_J17_ordinal rfl (by decide) q1199 q1200 (Or.inl q1201) ⟨by decide, by decide, by decide +kernel⟩ q1205 (by rw [hc]; rfl) (by rw [hc]; exact q1204) dX4_number_1 rfl rfl (Nat.le_of_ble_eq_true rfl)) (SP_J17_ordinal (j := 2) (by decide)) ?_
  refine xw_iret (pc := 4) .int dX4_number_4 rfl ?_ 
  exact ⟨rfl, rfl⟩

theorem SP_X1_numberOf_N {d : Nat} {g : xG} : XM M_X1_numberOf d [.null] g (xOne (some (.int (-1))) g) := by
  refine xm_of (by decide +kernel) (Nat.le_of_ble_eq_true rfl) ?_
  show XW _ _ 0 [(0, _)] [] _ _
  refine xw_aload_n (pc := 0) dX1_numberOf_0 0 rfl ?_
  refine xw_ifnonnullN (pc := 1) dX1_numberOf_1 ?_
  refine xw_iconst (v := -1) (pc := 4) dX1_numberOf_4 (by decide +kernel) ?_
  refine xw_goto (pc := 5) 12 dX1_numberOf_5 rfl ?_
  refine xw_iret (pc := 12) .int dX1_numberOf_12 rfl ?_ 
  exact ⟨rfl, rfl⟩

theorem SP_X1_numberOf0 {d : Nat} {g : xG} (hc : xtag g ((xE g).2.2.1 0) = 61) : XM M_X1_numberOf (d + 2) [.ref ((xE g).2.2.1 0)] g (xOne (some (.int (nI 0))) g) := by
  refine xm_of (by decide +kernel) (Nat.le_of_ble_eq_true rfl) ?_
  show XW _ _ 0 [(0, _)] [] _ _
  refine xw_aload_n (pc := 0) dX1_numberOf_0 0 rfl ?_
  refine xw_ifnonnull (pc := 1) 8 dX1_numberOf_1 rfl ?_
  refine xw_aload_n (pc := 8) dX1_numberOf_8 0 rfl ?_
  refine xw_callV (pc := 9) (xr_U (as := []) ok_X4_number rfl (by decide) q1192 q1194 (Or.inr ⟨_, _, _, q1193, q1198⟩) ⟨by decide, by decide, by decide +kernel⟩ q1193 (by rw [hc]; rfl) (by rw [hc]; exact q1195) dX1_numberOf_9 rfl rfl (Nat.le_of_ble_eq_true rfl)) (SP_X4_number0 hc) ?_
  refine xw_iret (pc := 12) .int dX1_numberOf_12 rfl ?_ 
  exact ⟨rfl, rfl⟩

theorem SP_X1_numberOf1 {d : Nat} {g : xG} (hc : xtag g ((xE g).2.2.1 1) = 62) : XM M_X1_numberOf (d + 2) [.ref ((xE g).2.2.1 1)] g (xOne (some (.int (nI 1))) g) := by
  refine xm_of (by decide +kernel) (Nat.le_of_ble_eq_true rfl) ?_
  show XW _ _ 0 [(0, _)] [] _ _
  refine xw_aload_n (pc := 0) dX1_numberOf_0 0 rfl ?_
  refine xw_ifnonnull (pc := 1) 8 dX1_numberOf_1 rfl ?_
  refine xw_aload_n (pc := 8) dX1_numberOf_8 0 rfl ?_
  refine xw_callV (pc := 9) (xr_U (as := []) ok_X4_number rfl (by decide) q1192 q1194 (Or.inr ⟨_, _, _, q1193, q1198⟩) ⟨by decide, by decide, by decide +kernel⟩ q1193 (by rw [hc]; rfl) (by rw [hc]; exact q1196) dX1_numberOf_9 rfl rfl (Nat.le_of_ble_eq_true rfl)) (SP_X4_number1 hc) ?_
  refine xw_iret (pc := 12) .int dX1_numberOf_12 rfl ?_ 
  exact ⟨rfl, rfl⟩

theorem SP_X1_numberOf2 {d : Nat} {g : xG} (hc : xtag g ((xE g).2.2.1 2) = 63) : XM M_X1_numberOf (d + 2) [.ref ((xE g).2.2.1 2)] g (xOne (some (.int (nI 2))) g) := by
  refine xm_of (by decide +kernel) (Nat.le_of_ble_eq_true rfl) ?_
  show XW _ _ 0 [(0, _)] [] _ _
  refine xw_aload_n (pc := 0) dX1_numberOf_0 0 rfl ?_
  refine xw_ifnonnull (pc := 1) 8 dX1_numberOf_1 rfl ?_
  refine xw_aload_n (pc := 8) dX1_numberOf_8 0 rfl ?_
  refine xw_callV (pc := 9) (xr_U (as := []) ok_X4_number rfl (by decide) q1192 q1194 (Or.inr ⟨_, _, _, q1193, q1198⟩) ⟨by decide, by decide, by decide +kernel⟩ q1193 (by rw [hc]; rfl) (by rw [hc]; exact q1197) dX1_numberOf_9 rfl rfl (Nat.le_of_ble_eq_true rfl)) (SP_X4_number2 hc) ?_
  refine xw_iret (pc := 12) .int dX1_numberOf_12 rfl ?_ 
  exact ⟨rfl, rfl⟩

theorem SP_X1_numberOf {d : Nat} {g : xG} {v : Int32} (hE : xCn g) (hv : v = -1 ∨ ∃ e, e < 3 ∧ v = nI e) : XM M_X1_numberOf (d + 2) [xref (effO g v)] g (xOne (some (.int v)) g) := by
  rcases hv with rfl | ⟨e, h1, rfl⟩
  · rw [effO_none]
    exact SP_X1_numberOf_N
  · have he : e = 0 ∨ e = 1 ∨ e = 2 := by omega
    rcases he with rfl | rfl | rfl
    · exact SP_X1_numberOf0 (hE 0 (by decide)).1
    · exact SP_X1_numberOf1 (hE 1 (by decide)).1
    · exact SP_X1_numberOf2 (hE 2 (by decide)).1
/-- a call of an effect's number, at the constant of v -/
theorem xw_enum {M : xM} {d pc : Nat} {l : List (Nat × Value)} {rest : List Value} {g : xG} {Q : Option Value ⊕ Nat → xG → Prop} {idx : Nat} {v : Int32} (hE : xCn g) (hv : ∃ e, e < 3 ∧ v = nI e) (hd : decode M.2.1 pc = .ok (.invokevirtual idx, 3)) (hl : Cond.methodLink M.1.cls idx ⟨"PolicyNotation$Effect", "number", "()I"⟩ ∈ lw_all) (hr : (rest.map fun v => v.category).sum ≤ 8) (k : XW M (d + 2) (pc + 3) l (.int v :: rest) g Q) : XW M (d + 2) pc l (xref (effO g v) :: rest) g Q := by
  obtain ⟨e, h1, rfl⟩ := hv
  have he : e = 0 ∨ e = 1 ∨ e = 2 := by omega
  rcases he with rfl | rfl | rfl
  · have hc := (hE 0 (by decide)).1
    exact xw_callV (xr_U (x := ⟨"PolicyNotation$Effect", "number", "()I"⟩) (as := []) ok_X4_number rfl (by decide) hl q1194 (Or.inr ⟨_, _, _, q1193, q1198⟩) ⟨by decide, by decide, by decide +kernel⟩ q1193 (by rw [hc]; rfl) (by rw [hc]; exact q1195) hd rfl rfl hr) (SP_X4_number0 hc) k
  · have hc := (hE 1 (by decide)).1
    exact xw_callV (xr_U (x := ⟨"PolicyNotation$Effect", "number", "()I"⟩) (as := []) ok_X4_number rfl (by decide) hl q1194 (Or.inr ⟨_, _, _, q1193, q1198⟩) ⟨by decide, by decide, by decide +kernel⟩ q1193 (by rw [hc]; rfl) (by rw [hc]; exact q1196) hd rfl rfl hr) (SP_X4_number1 hc) k
  · have hc := (hE 2 (by decide)).1
    exact xw_callV (xr_U (x := ⟨"PolicyNotation$Effect", "number", "()I"⟩) (as := []) ok_X4_number rfl (by decide) hl q1194 (Or.inr ⟨_, _, _, q1193, q1198⟩) ⟨by decide, by decide, by decide +kernel⟩ q1193 (by rw [hc]; rfl) (by rw [hc]; exact q1197) hd rfl rfl hr) (SP_X4_number2 hc) k
theorem SP_X1_testBy0 {d : Nat} {g : xG} {f dg : Int32} : XM M_X1_testBy (d + 3) [.int f, .int (nI 0), .int dg] g (xOne (some (.ref (xsz g))) (xsetI (xsetI (xNew g (xBlank 10 2 2) 2) (xsz g) 0 f) (xsz g) 1 dg)) := by
  refine xm_of (by decide +kernel) (Nat.le_of_ble_eq_true rfl) ?_
  show XW _ _ 0 [(0, _), (1, _), (2, _)] [] _ _
  refine xw_iload_n (pc := 0) dX1_testBy_0 1 rfl ?_
  refine xw_tableIn (x := nI 0) (pc := 1) 28 dX1_testBy_1 (by decide) (by decide) rfl rfl ?_
  refine xw_new (t := 10) (pc := 28) 2 dX1_testBy_28 rfl (by decide) (by first | decide | assumption | omega) q1375 q1376 q131 ?_
  refine xw_at (a := (xsz g)) (by rfl) ?_
  refine xw_dup (pc := 31) dX1_testBy_31 rfl ?_
  refine xw_iload_n (pc := 32) dX1_testBy_32 0 rfl ?_
  refine xw_iload_n (pc := 33) dX1_testBy_33 2 rfl ?_
  refine xw_callU (pc := 34) (xr_I (as := [_, _]) ok_X13_init rfl (by decide) q1377 q1378 rfl rfl dX1_testBy_34 rfl rfl (Nat.le_of_ble_eq_true rfl)) (SP_X13_init (by rw [xtag_newS rfl]; rfl) (by rw [xown_newS rfl]; decide)) ?_
  refine xw_aret (pc := 37) (.object "PolicyNotation$Test") dX1_testBy_37 rfl ?_
  exact ⟨rfl, rfl⟩

theorem SP_X1_testBy1 {d : Nat} {g : xG} {f dg : Int32} : XM M_X1_testBy (d + 3) [.int f, .int (nI 1), .int dg] g (xOne (some (.ref (xsz g))) (xsetI (xsetI (xNew g (xBlank 11 2 2) 2) (xsz g) 0 f) (xsz g) 1 dg)) := by
  refine xm_of (by decide +kernel) (Nat.le_of_ble_eq_true rfl) ?_
  show XW _ _ 0 [(0, _), (1, _), (2, _)] [] _ _
  refine xw_iload_n (pc := 0) dX1_testBy_0 1 rfl ?_
  refine xw_tableIn (x := nI 1) (pc := 1) 38 dX1_testBy_1 (by decide) (by decide) rfl rfl ?_
  refine xw_new (t := 11) (pc := 38) 2 dX1_testBy_38 rfl (by decide) (by first | decide | assumption | omega) q1391 q1392 q132 ?_
  refine xw_at (a := (xsz g)) (by rfl) ?_
  refine xw_dup (pc := 41) dX1_testBy_41 rfl ?_
  refine xw_iload_n (pc := 42) dX1_testBy_42 0 rfl ?_
  refine xw_iload_n (pc := 43) dX1_testBy_43 2 rfl ?_
  refine xw_callU (pc := 44) (xr_I (as := [_, _]) ok_X14_init rfl (by decide) q1393 q1394 rfl rfl dX1_testBy_44 rfl rfl (Nat.le_of_ble_eq_true rfl)) (SP_X14_init (by rw [xtag_newS rfl]; rfl) (by rw [xown_newS rfl]; decide)) ?_
  refine xw_aret (pc := 47) (.object "PolicyNotation$Test") dX1_testBy_47 rfl ?_
  exact ⟨rfl, rfl⟩

theorem SP_X1_testBy2 {d : Nat} {g : xG} {f dg : Int32} : XM M_X1_testBy (d + 3) [.int f, .int (nI 2), .int dg] g (xOne (some (.ref (xsz g))) (xsetI (xsetI (xNew g (xBlank 12 2 2) 2) (xsz g) 0 f) (xsz g) 1 dg)) := by
  refine xm_of (by decide +kernel) (Nat.le_of_ble_eq_true rfl) ?_
  show XW _ _ 0 [(0, _), (1, _), (2, _)] [] _ _
  refine xw_iload_n (pc := 0) dX1_testBy_0 1 rfl ?_
  refine xw_tableIn (x := nI 2) (pc := 1) 48 dX1_testBy_1 (by decide) (by decide) rfl rfl ?_
  refine xw_new (t := 12) (pc := 48) 2 dX1_testBy_48 rfl (by decide) (by first | decide | assumption | omega) q1400 q1401 q133 ?_
  refine xw_at (a := (xsz g)) (by rfl) ?_
  refine xw_dup (pc := 51) dX1_testBy_51 rfl ?_
  refine xw_iload_n (pc := 52) dX1_testBy_52 0 rfl ?_
  refine xw_iload_n (pc := 53) dX1_testBy_53 2 rfl ?_
  refine xw_callU (pc := 54) (xr_I (as := [_, _]) ok_X15_init rfl (by decide) q1402 q1403 rfl rfl dX1_testBy_54 rfl rfl (Nat.le_of_ble_eq_true rfl)) (SP_X15_init (by rw [xtag_newS rfl]; rfl) (by rw [xown_newS rfl]; decide)) ?_
  refine xw_aret (pc := 57) (.object "PolicyNotation$Test") dX1_testBy_57 rfl ?_
  exact ⟨rfl, rfl⟩

theorem SP_X1_testBy3 {d : Nat} {g : xG} {f dg : Int32} : XM M_X1_testBy (d + 3) [.int f, .int (nI 3), .int dg] g (xOne (some (.ref (xsz g))) (xsetI (xsetI (xNew g (xBlank 13 2 2) 2) (xsz g) 0 f) (xsz g) 1 dg)) := by
  refine xm_of (by decide +kernel) (Nat.le_of_ble_eq_true rfl) ?_
  show XW _ _ 0 [(0, _), (1, _), (2, _)] [] _ _
  refine xw_iload_n (pc := 0) dX1_testBy_0 1 rfl ?_
  refine xw_tableOut (pc := 1) 58 dX1_testBy_1 (by rw [nI_toInt (by omega)]; omega) rfl ?_
  refine xw_new (t := 13) (pc := 58) 2 dX1_testBy_58 rfl (by decide) (by first | decide | assumption | omega) q1409 q1410 q134 ?_
  refine xw_at (a := (xsz g)) (by rfl) ?_
  refine xw_dup (pc := 61) dX1_testBy_61 rfl ?_
  refine xw_iload_n (pc := 62) dX1_testBy_62 0 rfl ?_
  refine xw_iload_n (pc := 63) dX1_testBy_63 2 rfl ?_
  refine xw_callU (pc := 64) (xr_I (as := [_, _]) ok_X16_init rfl (by decide) q1411 q1412 rfl rfl dX1_testBy_64 rfl rfl (Nat.le_of_ble_eq_true rfl)) (SP_X16_init (by rw [xtag_newS rfl]; rfl) (by rw [xown_newS rfl]; decide)) ?_
  refine xw_aret (pc := 67) (.object "PolicyNotation$Test") dX1_testBy_67 rfl ?_
  exact ⟨rfl, rfl⟩

/-- a new test -/
theorem SP_X1_testBy {d : Nat} {g : xG} {f dg : Int32} (k : Nat) (hk : k < 4) : XM M_X1_testBy (d + 3) [.int f, .int (nI k), .int dg] g (xVal (.ref (xsz g)) (fun g' => xtag g' (xsz g) = 10 + k ∧ xown g' (xsz g) = 2 ∧ xi g' (xsz g) 0 = f ∧ xi g' (xsz g) 1 = dg ∧ xFr oNo 3 g g')) := by
  have key : ∀ t N, 0 < t → N ≤ 2 → (fun rs g' => xOne (some (.ref (xsz g))) (xsetI (xsetI (xNew g (xBlank t 2 2) N) (xsz g) 0 f) (xsz g) 1 dg) rs g') = (fun rs g' => xOne (some (.ref (xsz g))) (xsetI (xsetI (xNew g (xBlank t 2 2) N) (xsz g) 0 f) (xsz g) 1 dg) rs g') ∧ (xtag (xsetI (xsetI (xNew g (xBlank t 2 2) N) (xsz g) 0 f) (xsz g) 1 dg) (xsz g) = t ∧ xown (xsetI (xsetI (xNew g (xBlank t 2 2) N) (xsz g) 0 f) (xsz g) 1 dg) (xsz g) = 2 ∧ xi (xsetI (xsetI (xNew g (xBlank t 2 2) N) (xsz g) 0 f) (xsz g) 1 dg) (xsz g) 0 = f ∧ xi (xsetI (xsetI (xNew g (xBlank t 2 2) N) (xsz g) 0 f) (xsz g) 1 dg) (xsz g) 1 = dg ∧ xFr oNo 3 g (xsetI (xsetI (xNew g (xBlank t 2 2) N) (xsz g) 0 f) (xsz g) 1 dg)) := by
    intro t N ht hN
    have h0 : xtag (xNew g (xBlank t 2 2) N) (xsz g) = t := by rw [xtag_newS rfl]; rfl
    have h1 : xtag (xNew g (xBlank t 2 2) N) (xsz g) ≠ 0 := by rw [h0]; omega
    refine ⟨rfl, ?_, ?_, ?_, ?_, ?_⟩
    · rw [xtag_setI, xtag_setI]; exact h0
    · rw [xown_setI, xown_setI, xown_newS rfl]; rfl
    · rw [xi_setIK (by decide), xi_setIS h1]
    · rw [xi_setIS (by rw [xtag_setI]; exact h1)]
    · have F : xFr oNo (0 + (N + 1)) g (xNew g (xBlank t 2 2) N) := xFr.rf.nw
      exact ((F.si (Or.inl (Nat.le_refl _))).si (Or.inl (Nat.le_refl _))).sub (fun _ h => h) (by omega)
  have h : k = 0 ∨ k = 1 ∨ k = 2 ∨ k = 3 := by omega
  rcases h with rfl | rfl | rfl | rfl
  · exact (SP_X1_testBy0 (d := d)).mono (fun rs g' hp _ => by obtain ⟨rfl, rfl⟩ := hp; exact ⟨rfl, (key 10 2 (by decide) (by decide)).2⟩)
  · exact (SP_X1_testBy1 (d := d)).mono (fun rs g' hp _ => by obtain ⟨rfl, rfl⟩ := hp; exact ⟨rfl, (key 11 2 (by decide) (by decide)).2⟩)
  · exact (SP_X1_testBy2 (d := d)).mono (fun rs g' hp _ => by obtain ⟨rfl, rfl⟩ := hp; exact ⟨rfl, (key 12 2 (by decide) (by decide)).2⟩)
  · exact (SP_X1_testBy3 (d := d)).mono (fun rs g' hp _ => by obtain ⟨rfl, rfl⟩ := hp; exact ⟨rfl, (key 13 2 (by decide) (by decide)).2⟩)
theorem SP_X1_signOf0 {d : Nat} {g : xG} {a : Nat} (ht : xtag g a = 10) : XM M_X1_signOf d [.ref a] g (xOne (some (.int (nI 0))) g) := by
  refine xm_of (by decide +kernel) (Nat.le_of_ble_eq_true rfl) ?_
  show XW _ _ 0 [(0, _)] [] _ _
  refine xw_aload_n (pc := 0) dX1_signOf_0 0 rfl ?_
  refine xw_instS (pc := 1) dX1_signOf_1 (by rw [ht]; exact q1375) (by rw [ht]; rfl) ?_
  refine xw_if_eq (pc := 4) 9 dX1_signOf_4 rfl (fun hb => absurd hb (by decide)) (fun _ => ?_)
  refine xw_iconst (v := nI 0) (pc := 7) dX1_signOf_7 rfl ?_
  refine xw_iret (pc := 8) .int dX1_signOf_8 rfl ?_ 
  exact ⟨rfl, rfl⟩

theorem SP_X1_signOf1 {d : Nat} {g : xG} {a : Nat} (ht : xtag g a = 11) : XM M_X1_signOf d [.ref a] g (xOne (some (.int (nI 1))) g) := by
  refine xm_of (by decide +kernel) (Nat.le_of_ble_eq_true rfl) ?_
  show XW _ _ 0 [(0, _)] [] _ _
  refine xw_aload_n (pc := 0) dX1_signOf_0 0 rfl ?_
  refine xw_instNo (pc := 1) dX1_signOf_1 q1375 (by rw [ht]; rfl) (by rw [ht]; decide) ?_
  refine xw_if_eq (pc := 4) 9 dX1_signOf_4 rfl (fun _ => ?_) (fun hb => absurd hb (by decide))
  refine xw_aload_n (pc := 9) dX1_signOf_9 0 rfl ?_
  refine xw_instS (pc := 10) dX1_signOf_10 (by rw [ht]; exact q1391) (by rw [ht]; rfl) ?_
  refine xw_if_eq (pc := 13) 18 dX1_signOf_13 rfl (fun hb => absurd hb (by decide)) (fun _ => ?_)
  refine xw_iconst (v := nI 1) (pc := 16) dX1_signOf_16 rfl ?_
  refine xw_iret (pc := 17) .int dX1_signOf_17 rfl ?_ 
  exact ⟨rfl, rfl⟩

theorem SP_X1_signOf2 {d : Nat} {g : xG} {a : Nat} (ht : xtag g a = 12) : XM M_X1_signOf d [.ref a] g (xOne (some (.int (nI 2))) g) := by
  refine xm_of (by decide +kernel) (Nat.le_of_ble_eq_true rfl) ?_
  show XW _ _ 0 [(0, _)] [] _ _
  refine xw_aload_n (pc := 0) dX1_signOf_0 0 rfl ?_
  refine xw_instNo (pc := 1) dX1_signOf_1 q1375 (by rw [ht]; rfl) (by rw [ht]; decide) ?_
  refine xw_if_eq (pc := 4) 9 dX1_signOf_4 rfl (fun _ => ?_) (fun hb => absurd hb (by decide))
  refine xw_aload_n (pc := 9) dX1_signOf_9 0 rfl ?_
  refine xw_instNo (pc := 10) dX1_signOf_10 q1391 (by rw [ht]; rfl) (by rw [ht]; decide) ?_
  refine xw_if_eq (pc := 13) 18 dX1_signOf_13 rfl (fun _ => ?_) (fun hb => absurd hb (by decide))
  refine xw_aload_n (pc := 18) dX1_signOf_18 0 rfl ?_
  refine xw_instS (pc := 19) dX1_signOf_19 (by rw [ht]; exact q1400) (by rw [ht]; rfl) ?_
  refine xw_if_eq (pc := 22) 29 dX1_signOf_22 rfl (fun hb => absurd hb (by decide)) (fun _ => ?_)
  refine xw_iconst (v := nI 2) (pc := 25) dX1_signOf_25 rfl ?_
  refine xw_goto (pc := 26) 30 dX1_signOf_26 rfl ?_
  refine xw_iret (pc := 30) .int dX1_signOf_30 rfl ?_ 
  exact ⟨rfl, rfl⟩

theorem SP_X1_signOf3 {d : Nat} {g : xG} {a : Nat} (ht : xtag g a = 13) : XM M_X1_signOf d [.ref a] g (xOne (some (.int (nI 3))) g) := by
  refine xm_of (by decide +kernel) (Nat.le_of_ble_eq_true rfl) ?_
  show XW _ _ 0 [(0, _)] [] _ _
  refine xw_aload_n (pc := 0) dX1_signOf_0 0 rfl ?_
  refine xw_instNo (pc := 1) dX1_signOf_1 q1375 (by rw [ht]; rfl) (by rw [ht]; decide) ?_
  refine xw_if_eq (pc := 4) 9 dX1_signOf_4 rfl (fun _ => ?_) (fun hb => absurd hb (by decide))
  refine xw_aload_n (pc := 9) dX1_signOf_9 0 rfl ?_
  refine xw_instNo (pc := 10) dX1_signOf_10 q1391 (by rw [ht]; rfl) (by rw [ht]; decide) ?_
  refine xw_if_eq (pc := 13) 18 dX1_signOf_13 rfl (fun _ => ?_) (fun hb => absurd hb (by decide))
  refine xw_aload_n (pc := 18) dX1_signOf_18 0 rfl ?_
  refine xw_instNo (pc := 19) dX1_signOf_19 q1400 (by rw [ht]; rfl) (by rw [ht]; decide) ?_
  refine xw_if_eq (pc := 22) 29 dX1_signOf_22 rfl (fun _ => ?_) (fun hb => absurd hb (by decide))
  refine xw_iconst (v := nI 3) (pc := 29) dX1_signOf_29 rfl ?_
  refine xw_iret (pc := 30) .int dX1_signOf_30 rfl ?_ 
  exact ⟨rfl, rfl⟩

theorem SP_X1_signOf {d : Nat} {g : xG} {a : Nat} (h1 : 10 ≤ xtag g a) (h2 : xtag g a ≤ 13) : XM M_X1_signOf d [.ref a] g (xOne (some (.int (nI (xtag g a - 10)))) g) := by
  have h : xtag g a = 10 ∨ xtag g a = 11 ∨ xtag g a = 12 ∨ xtag g a = 13 := by omega
  rcases h with h | h | h | h <;> rw [h]
  · exact SP_X1_signOf0 h
  · exact SP_X1_signOf1 h
  · exact SP_X1_signOf2 h
  · exact SP_X1_signOf3 h
/-- the past, with b -/
def pastA (ps : List Nat) (b : Nat) : List Nat := if ps.length = 8 then (ps ++ [b]).tail else ps ++ [b]
theorem SP_X1_changed {d : Nat} {g : xG} {x dq da h b : Nat} {ps : List Nat} {v : Int32} (hx : xtag g x = 1) (h2 : xr g x 2 = some dq) (hxo : xown g x = 1) (hD : xAD g 7 dq da h ps) (hl : ps.length ≤ 8) (hb : xtag g b = 2) : XM M_X1_changed (d + 3) [.ref x, .ref b, .int v] g (xVal (.int v) (fun g' => (∃ h', xAD g' 7 dq da h' (pastA ps b)) ∧ xFr (oEq 7) 0 g g')) := by
  have td : xtag g dq = 21 := hD.1
  have hxl : x < xsz g := xlt (by rw [hx]; decide)
  have nx : ¬ oEq 7 (xown g x) := by rw [hxo]; unfold oEq; omega
  refine xm_of (by decide +kernel) (Nat.le_of_ble_eq_true rfl) ?_
  show XW _ _ 0 [(0, _), (1, _), (2, _)] [] _ _
  refine xw_aload_n (pc := 0) dX1_changed_0 0 rfl ?_
  refine xw_getS (b := dq) (pc := 1) fd_X1_19 dX1_changed_1 (by first | assumption | (simp [-List.getD_eq_getElem?_getD, xE_setI, xsz_setI, xsl_setI, xtag_setI, xown_setI, xlen_setI, xE_setR, xsz_setR, xsl_setR, xtag_setR, xown_setR, xlen_setR, xE_setW, xsz_setW, xsl_setW, xtag_setW, xown_setW, xlen_setW, xi_setR, xi_setW, xr_setI, xr_setW, xww_setI, xww_setR, xi_setI, xr_setR, xww_setW, xE_new, xsz_new, xsl_new, hx, h2, xsub]; done) | (simp [-List.getD_eq_getElem?_getD, xE_setI, xsz_setI, xsl_setI, xtag_setI, xown_setI, xlen_setI, xE_setR, xsz_setR, xsl_setR, xtag_setR, xown_setR, xlen_setR, xE_setW, xsz_setW, xsl_setW, xtag_setW, xown_setW, xlen_setW, xi_setR, xi_setW, xr_setI, xr_setW, xww_setI, xww_setR, xi_setI, xr_setR, xww_setW, xE_new, xsz_new, xsl_new, hx, h2] <;> rfl)) (by simp [-List.getD_eq_getElem?_getD, xE_setI, xsz_setI, xsl_setI, xtag_setI, xown_setI, xlen_setI, xE_setR, xsz_setR, xsl_setR, xtag_setR, xown_setR, xlen_setR, xE_setW, xsz_setW, xsl_setW, xtag_setW, xown_setW, xlen_setW, xi_setR, xi_setW, xr_setI, xr_setW, xww_setI, xww_setR, xi_setI, xr_setR, xww_setW, xE_new, xsz_new, xsl_new, hx, h2]) ?_
  refine xw_aload_n (pc := 4) dX1_changed_4 1 rfl ?_
  refine xw_callH (pc := 5) (xr_V (as := [_]) ok_J18_addLast rfl (by decide) q1114 q1115 q1116 (by first | (rw [td]; rfl) | (rw [td5]; rfl)) (by first | (rw [td]; rfl) | (rw [td5]; rfl)) dX1_changed_5 rfl rfl (Nat.le_of_ble_eq_true rfl)) (SP_J18_addLast hD (by decide) (xObj_P hb) (by omega)) ?_
  intro g5 hc5 hm5
  have hx5 : xtag g5 x = 1 := (hc5.2.tag hxl).trans hx
  have h25 : xr g5 x 2 = some dq := (hc5.2.r' hxl nx).trans h2
  have td5 : xtag g5 dq = 21 := hc5.1.1
  have hl9 : (ps ++ [b]).length = ps.length + 1 := by rw [List.length_append]; rfl
  refine xw_aload_n (pc := 8) dX1_changed_8 0 rfl ?_
  refine xw_getS (b := dq) (pc := 9) fd_X1_19 dX1_changed_9 (by first | assumption | (simp [-List.getD_eq_getElem?_getD, xE_setI, xsz_setI, xsl_setI, xtag_setI, xown_setI, xlen_setI, xE_setR, xsz_setR, xsl_setR, xtag_setR, xown_setR, xlen_setR, xE_setW, xsz_setW, xsl_setW, xtag_setW, xown_setW, xlen_setW, xi_setR, xi_setW, xr_setI, xr_setW, xww_setI, xww_setR, xi_setI, xr_setR, xww_setW, xE_new, xsz_new, xsl_new, hx, h2, hx5, h25, xsub]; done) | (simp [-List.getD_eq_getElem?_getD, xE_setI, xsz_setI, xsl_setI, xtag_setI, xown_setI, xlen_setI, xE_setR, xsz_setR, xsl_setR, xtag_setR, xown_setR, xlen_setR, xE_setW, xsz_setW, xsl_setW, xtag_setW, xown_setW, xlen_setW, xi_setR, xi_setW, xr_setI, xr_setW, xww_setI, xww_setR, xi_setI, xr_setR, xww_setW, xE_new, xsz_new, xsl_new, hx, h2, hx5, h25] <;> rfl)) (by simp [-List.getD_eq_getElem?_getD, xE_setI, xsz_setI, xsl_setI, xtag_setI, xown_setI, xlen_setI, xE_setR, xsz_setR, xsl_setR, xtag_setR, xown_setR, xlen_setR, xE_setW, xsz_setW, xsl_setW, xtag_setW, xown_setW, xlen_setW, xi_setR, xi_setW, xr_setI, xr_setW, xww_setI, xww_setR, xi_setI, xr_setR, xww_setW, xE_new, xsz_new, xsl_new, hx, h2, hx5, h25]) ?_
  refine xw_callV (pc := 12) (xr_V (as := []) ok_J18_size rfl (by decide) q1139 q1140 q1141 (by first | (rw [td]; rfl) | (rw [td5]; rfl)) (by first | (rw [td]; rfl) | (rw [td5]; rfl)) dX1_changed_12 rfl rfl (Nat.le_of_ble_eq_true rfl)) (SP_J18_size hc5.1) ?_
  refine xw_bipush (v := nI 8) (pc := 15) dX1_changed_15 (by decide +kernel) ?_
  refine xw_icmp_le (pc := 17) 28 dX1_changed_17 rfl (fun hb17 => ?_) (fun hb17 => ?_)
  · replace hb17 : (ps ++ [b]).length ≤ 8 := (nI_leI (a := (ps ++ [b]).length) (b := 8) (by omega) (by omega)).mp hb17
    refine xw_iload_n (pc := 28) dX1_changed_28 2 rfl ?_
    refine xw_iret (pc := 29) .int dX1_changed_29 rfl ?_ 
    first
    | (refine ⟨rfl, ⟨h, ?_⟩, hc5.2⟩
       have hn : ¬ ps.length = 8 := by rw [List.length_append, List.length_singleton] at hb17; omega
       unfold pastA
       rw [if_neg hn]
       exact hc5.1)
    | (refine ⟨rfl, ⟨(h + 1) % 17, ?_⟩, (hc5.2.tr hc24.2).sub (fun _ h => h) (Nat.le_refl _)⟩
       unfold pastA
       rw [if_pos h8, hcons]
       exact hc24.1)
  · replace hb17 : ¬ ((ps ++ [b]).length ≤ 8) := mt (nI_leI (a := (ps ++ [b]).length) (b := 8) (by omega) (by omega)).mpr hb17
    have h8 : ps.length = 8 := by omega
    obtain ⟨c, tl, hcons⟩ : ∃ c tl, ps ++ [b] = c :: tl := by
      cases hq : ps ++ [b] with
      | nil => rw [hq] at hl9; cases hl9
      | cons c tl => exact ⟨c, tl, rfl⟩
    have hD6 := hc5.1
    rw [hcons] at hD6
    refine xw_aload_n (pc := 20) dX1_changed_20 0 rfl ?_
    refine xw_getS (b := dq) (pc := 21) fd_X1_19 dX1_changed_21 (by first | assumption | (simp [-List.getD_eq_getElem?_getD, xE_setI, xsz_setI, xsl_setI, xtag_setI, xown_setI, xlen_setI, xE_setR, xsz_setR, xsl_setR, xtag_setR, xown_setR, xlen_setR, xE_setW, xsz_setW, xsl_setW, xtag_setW, xown_setW, xlen_setW, xi_setR, xi_setW, xr_setI, xr_setW, xww_setI, xww_setR, xi_setI, xr_setR, xww_setW, xE_new, xsz_new, xsl_new, hx, h2, hx5, h25, xsub]; done) | (simp [-List.getD_eq_getElem?_getD, xE_setI, xsz_setI, xsl_setI, xtag_setI, xown_setI, xlen_setI, xE_setR, xsz_setR, xsl_setR, xtag_setR, xown_setR, xlen_setR, xE_setW, xsz_setW, xsl_setW, xtag_setW, xown_setW, xlen_setW, xi_setR, xi_setW, xr_setI, xr_setW, xww_setI, xww_setR, xi_setI, xr_setR, xww_setW, xE_new, xsz_new, xsl_new, hx, h2, hx5, h25] <;> rfl)) (by simp [-List.getD_eq_getElem?_getD, xE_setI, xsz_setI, xsl_setI, xtag_setI, xown_setI, xlen_setI, xE_setR, xsz_setR, xsl_setR, xtag_setR, xown_setR, xlen_setR, xE_setW, xsz_setW, xsl_setW, xtag_setW, xown_setW, xlen_setW, xi_setR, xi_setW, xr_setI, xr_setW, xww_setI, xww_setR, xi_setI, xr_setR, xww_setW, xE_new, xsz_new, xsl_new, hx, h2, hx5, h25]) ?_
    refine xw_callF (pc := 24) (xr_V (as := []) ok_J18_removeFirst rfl (by decide) q1146 q1147 q1148 (by first | (rw [td]; rfl) | (rw [td5]; rfl)) (by first | (rw [td]; rfl) | (rw [td5]; rfl)) dX1_changed_24 rfl rfl (Nat.le_of_ble_eq_true rfl)) (SP_J18_removeFirst hD6 (by decide)) ?_
    intro g24 hc24 hm24
    show XW _ _ 27 _ [.ref c] _ _
    refine xw_pop (pc := 27) dX1_changed_27 rfl ?_
    refine xw_iload_n (pc := 28) dX1_changed_28 2 rfl ?_
    refine xw_iret (pc := 29) .int dX1_changed_29 rfl ?_ 
    first
    | (refine ⟨rfl, ⟨h, ?_⟩, hc5.2⟩
       have hn : ¬ ps.length = 8 := by rw [List.length_append, List.length_singleton] at hb17; omega
       unfold pastA
       rw [if_neg hn]
       exact hc5.1)
    | (refine ⟨rfl, ⟨(h + 1) % 17, ?_⟩, (hc5.2.tr hc24.2).sub (fun _ h => h) (Nat.le_refl _)⟩
       unfold pastA
       rw [if_pos h8, hcons]
       exact hc24.1)

theorem SP_X1_looked {d : Nat} {g : xG} {x lk fa ka la p n rr ww k : Nat} {Z : xAd} {s : Nat → Int32} {day feats : Int32} (hx : xtag g x = 1) (hxo : xown g x = 1) (hxp : xr g x 0 = some p) (hP : xPol g p Z s n rr ww) (hl3 : xr g x 3 = some lk) (hB : xLb g x lk fa ka la) (hk : k < n) (hcs : isCs day feats = true) : XM M_X1_looked (d + 4) [.ref x, .int (nI k), .int day, .int feats] g (xVal (.ref lk) (fun g' => xCs g' x lk fa ka la p Z s n rr ww k day feats (-1) (hld (isPa s) rr (cov s (-1) k day feats)) ∧ xFr (oEq 6) 0 g g')) := by
  have n10 := hP.wf.n10
  have lc := hP.lc
  unfold isCs at hcs
  rw [Bool.and_eq_true] at hcs
  have hsk := SP_X2_isScope (d := d + 2) hP.pl (v := nI k)
  rw [lc, inR_k (by omega) hk] at hsk
  have h11 := SP_X1_isDay (d := d + 2) (g := g) (v := day)
  have h19 := SP_X1_areFeatures (d := d + 2) (g := g) (v := feats)
  rw [hcs.1] at h11
  rw [hcs.2] at h19
  refine xm_of (by decide +kernel) (Nat.le_of_ble_eq_true rfl) ?_
  show XW _ _ 0 [(0, _), (1, _), (2, _), (3, _)] [] _ _
  refine xw_aload_n (pc := 0) dX1_looked_0 0 rfl ?_
  refine xw_getS (b := p) (pc := 1) fd_X1_10 dX1_looked_1 (by first | assumption | (simp [-List.getD_eq_getElem?_getD, xE_setI, xsz_setI, xsl_setI, xtag_setI, xown_setI, xlen_setI, xE_setR, xsz_setR, xsl_setR, xtag_setR, xown_setR, xlen_setR, xE_setW, xsz_setW, xsl_setW, xtag_setW, xown_setW, xlen_setW, xi_setR, xi_setW, xr_setI, xr_setW, xww_setI, xww_setR, xi_setI, xr_setR, xww_setW, xE_new, xsz_new, xsl_new, hx, hxp, hl3, xsub]; done) | (simp [-List.getD_eq_getElem?_getD, xE_setI, xsz_setI, xsl_setI, xtag_setI, xown_setI, xlen_setI, xE_setR, xsz_setR, xsl_setR, xtag_setR, xown_setR, xlen_setR, xE_setW, xsz_setW, xsl_setW, xtag_setW, xown_setW, xlen_setW, xi_setR, xi_setW, xr_setI, xr_setW, xww_setI, xww_setR, xi_setI, xr_setR, xww_setW, xE_new, xsz_new, xsl_new, hx, hxp, hl3] <;> rfl)) (by simp [-List.getD_eq_getElem?_getD, xE_setI, xsz_setI, xsl_setI, xtag_setI, xown_setI, xlen_setI, xE_setR, xsz_setR, xsl_setR, xtag_setR, xown_setR, xlen_setR, xE_setW, xsz_setW, xsl_setW, xtag_setW, xown_setW, xlen_setW, xi_setR, xi_setW, xr_setI, xr_setW, xww_setI, xww_setR, xi_setI, xr_setR, xww_setW, xE_new, xsz_new, xsl_new, hx, hxp, hl3]) ?_
  refine xw_iload_n (pc := 4) dX1_looked_4 1 rfl ?_
  refine xw_callV (pc := 5) (xr_V (as := [_]) ok_X2_isScope rfl (by decide) q1251 q1061 q1062 (by rw [hP.tag]; rfl) (by rw [hP.tag]; rfl) dX1_looked_5 rfl rfl (Nat.le_of_ble_eq_true rfl)) (hsk) ?_
  refine xw_callU (pc := 8) (xr_S (as := [_]) ok_X1_checkIndex rfl (by decide) q1252 q1066 dX1_looked_8 rfl rfl (Nat.le_of_ble_eq_true rfl)) (SP_X1_checkIndex_T) ?_
  refine xw_iload_n (pc := 11) dX1_looked_11 2 rfl ?_
  refine xw_callV (pc := 12) (xr_S (as := [_]) ok_X1_isDay rfl (by decide) q1265 q1266 dX1_looked_12 rfl rfl (Nat.le_of_ble_eq_true rfl)) (h11) ?_
  refine xw_if_eq (pc := 15) 29 dX1_looked_15 rfl (fun hb => absurd hb (by decide)) (fun _ => ?_)
  refine xw_iload_n (pc := 18) dX1_looked_18 3 rfl ?_
  refine xw_callV (pc := 19) (xr_S (as := [_]) ok_X1_areFeatures rfl (by decide) q1516 q1517 dX1_looked_19 rfl rfl (Nat.le_of_ble_eq_true rfl)) (h19) ?_
  refine xw_if_eq (pc := 22) 29 dX1_looked_22 rfl (fun hb => absurd hb (by decide)) (fun _ => ?_)
  refine xw_iconst (v := nI 1) (pc := 25) dX1_looked_25 rfl ?_
  refine xw_goto (pc := 26) 30 dX1_looked_26 rfl ?_
  refine xw_callU (pc := 30) (xr_S (as := [_]) ok_X1_check rfl (by decide) q1181 q1182 dX1_looked_30 rfl rfl (Nat.le_of_ble_eq_true rfl)) ((show XM M_X1_check (d + 3) [.int (nI 1)] g (xOne none g) from SP_X1_check_T)) ?_
  refine xw_aload_n (pc := 33) dX1_looked_33 0 rfl ?_
  refine xw_getS (b := lk) (pc := 34) fd_X1_28 dX1_looked_34 (by first | assumption | (simp [-List.getD_eq_getElem?_getD, xE_setI, xsz_setI, xsl_setI, xtag_setI, xown_setI, xlen_setI, xE_setR, xsz_setR, xsl_setR, xtag_setR, xown_setR, xlen_setR, xE_setW, xsz_setW, xsl_setW, xtag_setW, xown_setW, xlen_setW, xi_setR, xi_setW, xr_setI, xr_setW, xww_setI, xww_setR, xi_setI, xr_setR, xww_setW, xE_new, xsz_new, xsl_new, hx, hxp, hl3, xsub]; done) | (simp [-List.getD_eq_getElem?_getD, xE_setI, xsz_setI, xsl_setI, xtag_setI, xown_setI, xlen_setI, xE_setR, xsz_setR, xsl_setR, xtag_setR, xown_setR, xlen_setR, xE_setW, xsz_setW, xsl_setW, xtag_setW, xown_setW, xlen_setW, xi_setR, xi_setW, xr_setI, xr_setW, xww_setI, xww_setR, xi_setI, xr_setR, xww_setW, xE_new, xsz_new, xsl_new, hx, hxp, hl3] <;> rfl)) (by simp [-List.getD_eq_getElem?_getD, xE_setI, xsz_setI, xsl_setI, xtag_setI, xown_setI, xlen_setI, xE_setR, xsz_setR, xsl_setR, xtag_setR, xown_setR, xlen_setR, xE_setW, xsz_setW, xsl_setW, xtag_setW, xown_setW, xlen_setW, xi_setR, xi_setW, xr_setI, xr_setW, xww_setI, xww_setR, xi_setI, xr_setR, xww_setW, xE_new, xsz_new, xsl_new, hx, hxp, hl3]) ?_
  refine xw_iload_n (pc := 37) dX1_looked_37 1 rfl ?_
  refine xw_iload_n (pc := 38) dX1_looked_38 2 rfl ?_
  refine xw_iload_n (pc := 39) dX1_looked_39 3 rfl ?_
  refine xw_iconst (v := -1) (pc := 40) dX1_looked_40 (by decide +kernel) ?_
  refine xw_callF (pc := 41) (xr_V (as := [_, _, _, _]) ok_X5_at_2 rfl (by decide) q1520 q737 q738 (by rw [hB.lt]; rfl) (by rw [hB.lt]; rfl) dX1_looked_41 rfl rfl (Nat.le_of_ble_eq_true rfl)) (SP_X5_at_2 hx hxo hxp hP hk hB) ?_
  intro g41 hc41 hm41
  refine xw_aret (pc := 44) (.object "PolicyNotation$Look") dX1_looked_44 rfl ?_
  exact ⟨rfl, hc41⟩

theorem SP_X1_looked_F1 {d : Nat} {g : xG} {x p n rr ww : Nat} {Z : xAd} {s : Nat → Int32} {sc day feats : Int32} (hx : xtag g x = 1) (hxp : xr g x 0 = some p) (hP : xPol g p Z s n rr ww) (hv : ¬ inR sc (nI 0) (nI n - nI 1) = true) : XM M_X1_looked (d + 7) [.ref x, .int sc, .int day, .int feats] g (xThr (xsz g) (xExc g 23)) := by
  have lc := hP.lc
  have hsk := SP_X2_isScope (d := d + 5) hP.pl (v := sc)
  rw [lc, Bool.eq_false_iff.mpr hv] at hsk
  refine xm_of (by decide +kernel) (Nat.le_of_ble_eq_true rfl) ?_
  show XW _ _ 0 [(0, _), (1, _), (2, _), (3, _)] [] _ _
  refine xw_aload_n (pc := 0) dX1_looked_0 0 rfl ?_
  refine xw_getS (b := p) (pc := 1) fd_X1_10 dX1_looked_1 (by first | assumption | (simp [-List.getD_eq_getElem?_getD, xE_setI, xsz_setI, xsl_setI, xtag_setI, xown_setI, xlen_setI, xE_setR, xsz_setR, xsl_setR, xtag_setR, xown_setR, xlen_setR, xE_setW, xsz_setW, xsl_setW, xtag_setW, xown_setW, xlen_setW, xi_setR, xi_setW, xr_setI, xr_setW, xww_setI, xww_setR, xi_setI, xr_setR, xww_setW, xE_new, xsz_new, xsl_new, hx, hxp, xsub]; done) | (simp [-List.getD_eq_getElem?_getD, xE_setI, xsz_setI, xsl_setI, xtag_setI, xown_setI, xlen_setI, xE_setR, xsz_setR, xsl_setR, xtag_setR, xown_setR, xlen_setR, xE_setW, xsz_setW, xsl_setW, xtag_setW, xown_setW, xlen_setW, xi_setR, xi_setW, xr_setI, xr_setW, xww_setI, xww_setR, xi_setI, xr_setR, xww_setW, xE_new, xsz_new, xsl_new, hx, hxp] <;> rfl)) (by simp [-List.getD_eq_getElem?_getD, xE_setI, xsz_setI, xsl_setI, xtag_setI, xown_setI, xlen_setI, xE_setR, xsz_setR, xsl_setR, xtag_setR, xown_setR, xlen_setR, xE_setW, xsz_setW, xsl_setW, xtag_setW, xown_setW, xlen_setW, xi_setR, xi_setW, xr_setI, xr_setW, xww_setI, xww_setR, xi_setI, xr_setR, xww_setW, xE_new, xsz_new, xsl_new, hx, hxp]) ?_
  refine xw_iload_n (pc := 4) dX1_looked_4 1 rfl ?_
  refine xw_callV (pc := 5) (xr_V (as := [_]) ok_X2_isScope rfl (by decide) q1251 q1061 q1062 (by rw [hP.tag]; rfl) (by rw [hP.tag]; rfl) dX1_looked_5 rfl rfl (Nat.le_of_ble_eq_true rfl)) (hsk) ?_
  refine xw_callX (pc := 8) (xr_S (as := [_]) ok_X1_checkIndex rfl (by decide) q1252 q1066 dX1_looked_8 rfl rfl (Nat.le_of_ble_eq_true rfl)) (SP_X1_checkIndex_F) ?_
  exact xx_out0 rfl (by rw [xExc_tag]; decide) (by rw [xExc_tag]; decide) (by rw [xExc_own]; decide) ⟨rfl, rfl⟩

theorem SP_X1_looked_F2 {d : Nat} {g : xG} {x p n rr ww k : Nat} {Z : xAd} {s : Nat → Int32} {day feats : Int32} (hx : xtag g x = 1) (hxp : xr g x 0 = some p) (hP : xPol g p Z s n rr ww) (hk : k < n) (hcs : isCs day feats = false) : XM M_X1_looked (d + 7) [.ref x, .int (nI k), .int day, .int feats] g (xThr (xsz g) (xExc g 22)) := by
  have n10 := hP.wf.n10
  have lc := hP.lc
  have hsk := SP_X2_isScope (d := d + 5) hP.pl (v := nI k)
  rw [lc, inR_k (by omega) hk] at hsk
  refine xm_of (by decide +kernel) (Nat.le_of_ble_eq_true rfl) ?_
  show XW _ _ 0 [(0, _), (1, _), (2, _), (3, _)] [] _ _
  refine xw_aload_n (pc := 0) dX1_looked_0 0 rfl ?_
  refine xw_getS (b := p) (pc := 1) fd_X1_10 dX1_looked_1 (by first | assumption | (simp [-List.getD_eq_getElem?_getD, xE_setI, xsz_setI, xsl_setI, xtag_setI, xown_setI, xlen_setI, xE_setR, xsz_setR, xsl_setR, xtag_setR, xown_setR, xlen_setR, xE_setW, xsz_setW, xsl_setW, xtag_setW, xown_setW, xlen_setW, xi_setR, xi_setW, xr_setI, xr_setW, xww_setI, xww_setR, xi_setI, xr_setR, xww_setW, xE_new, xsz_new, xsl_new, hx, hxp, xsub]; done) | (simp [-List.getD_eq_getElem?_getD, xE_setI, xsz_setI, xsl_setI, xtag_setI, xown_setI, xlen_setI, xE_setR, xsz_setR, xsl_setR, xtag_setR, xown_setR, xlen_setR, xE_setW, xsz_setW, xsl_setW, xtag_setW, xown_setW, xlen_setW, xi_setR, xi_setW, xr_setI, xr_setW, xww_setI, xww_setR, xi_setI, xr_setR, xww_setW, xE_new, xsz_new, xsl_new, hx, hxp] <;> rfl)) (by simp [-List.getD_eq_getElem?_getD, xE_setI, xsz_setI, xsl_setI, xtag_setI, xown_setI, xlen_setI, xE_setR, xsz_setR, xsl_setR, xtag_setR, xown_setR, xlen_setR, xE_setW, xsz_setW, xsl_setW, xtag_setW, xown_setW, xlen_setW, xi_setR, xi_setW, xr_setI, xr_setW, xww_setI, xww_setR, xi_setI, xr_setR, xww_setW, xE_new, xsz_new, xsl_new, hx, hxp]) ?_
  refine xw_iload_n (pc := 4) dX1_looked_4 1 rfl ?_
  refine xw_callV (pc := 5) (xr_V (as := [_]) ok_X2_isScope rfl (by decide) q1251 q1061 q1062 (by rw [hP.tag]; rfl) (by rw [hP.tag]; rfl) dX1_looked_5 rfl rfl (Nat.le_of_ble_eq_true rfl)) (hsk) ?_
  refine xw_callU (pc := 8) (xr_S (as := [_]) ok_X1_checkIndex rfl (by decide) q1252 q1066 dX1_looked_8 rfl rfl (Nat.le_of_ble_eq_true rfl)) (SP_X1_checkIndex_T) ?_
  refine xw_iload_n (pc := 11) dX1_looked_11 2 rfl ?_
  refine xw_callV (pc := 12) (xr_S (as := [_]) ok_X1_isDay rfl (by decide) q1265 q1266 dX1_looked_12 rfl rfl (Nat.le_of_ble_eq_true rfl)) (SP_X1_isDay) ?_
  refine xw_if_eq (pc := 15) 29 dX1_looked_15 rfl (fun hb15 => ?_) (fun hb15 => ?_)
  · replace hb15 := bI_0.mp hb15
    refine xw_iconst (v := nI 0) (pc := 29) dX1_looked_29 rfl ?_
    refine xw_callX (pc := 30) (xr_S (as := [_]) ok_X1_check rfl (by decide) q1181 q1182 dX1_looked_30 rfl rfl (Nat.le_of_ble_eq_true rfl)) ((show XM M_X1_check (d + 6) [.int (nI 0)] g (xThr (xsz g) (xExc g 22)) from SP_X1_check_F)) ?_
    exact xx_out0 rfl (by rw [xExc_tag]; decide) (by rw [xExc_tag]; decide) (by rw [xExc_own]; decide) ⟨rfl, rfl⟩
  · replace hb15 := bI_n0.mp hb15
    refine xw_iload_n (pc := 18) dX1_looked_18 3 rfl ?_
    refine xw_callV (pc := 19) (xr_S (as := [_]) ok_X1_areFeatures rfl (by decide) q1516 q1517 dX1_looked_19 rfl rfl (Nat.le_of_ble_eq_true rfl)) (SP_X1_areFeatures) ?_
    refine xw_if_eq (pc := 22) 29 dX1_looked_22 rfl (fun hb22 => ?_) (fun hb22 => ?_)
    rotate_left
    · exfalso
      replace hb22 := bI_n0.mp hb22
      unfold isCs at hcs
      rw [hb15, hb22] at hcs
      cases hcs
    replace hb22 := bI_0.mp hb22
    refine xw_iconst (v := nI 0) (pc := 29) dX1_looked_29 rfl ?_
    refine xw_callX (pc := 30) (xr_S (as := [_]) ok_X1_check rfl (by decide) q1181 q1182 dX1_looked_30 rfl rfl (Nat.le_of_ble_eq_true rfl)) ((show XM M_X1_check (d + 6) [.int (nI 0)] g (xThr (xsz g) (xExc g 22)) from SP_X1_check_F)) ?_
    exact xx_out0 rfl (by rw [xExc_tag]; decide) (by rw [xExc_tag]; decide) (by rw [xExc_own]; decide) ⟨rfl, rfl⟩

