/-! MODEL 15: the reference reads tests -/
set_option maxRecDepth 100000
theorem rdS_m {S : xMS} {w : Bool} {p a j : Nat} {v : Int32} (h : a ≠ 0 ∨ (j ≠ 23 ∧ j ≠ 24)) : mset (rdS S w p) a j v = rdS (mset S a j v) w p := by
  funext x y
  unfold rdS mset
  by_cases h1 : x = 0 ∧ y = 23
  · obtain ⟨rfl, rfl⟩ := h1
    have : ¬ (0 = a ∧ 23 = j) := by omega
    simp [this]
  · by_cases h2 : x = 0 ∧ y = 24
    · obtain ⟨rfl, rfl⟩ := h2
      have : ¬ (0 = a ∧ 24 = j) := by omega
      simp [this]
    · by_cases h3 : x = a ∧ y = j
      · rw [if_pos h3, if_neg h1, if_neg h2, if_pos h3]
      · rw [if_neg h3, if_neg h1, if_neg h2, if_neg h1, if_neg h2, if_neg h3]
theorem rdS_mtest {S : xMS} {w : Bool} {p k : Nat} {f g d : Int32} : mtest (rdS S w p) k f g d = rdS (mtest S k f g d) w p := by
  unfold mtest
  rw [rdS_m (Or.inl (by decide)), rdS_m (Or.inl (by decide)), rdS_m (Or.inl (by decide)), rdS_m (Or.inr ⟨by decide, by decide⟩)]
theorem mtest_qq {S : xMS} {k a : Nat} {f g d : Int32} (h0 : a ≠ 0) (h5 : a ≠ 5) : mtest S k f g d a = S a := by
  unfold mtest
  rw [mset_q h0, mset_q h5, mset_q h5, mset_q h5]
theorem mtest_0 {S : xMS} {k j : Nat} {f g d : Int32} (h : j ≠ 11) : mtest S k f g d 0 j = S 0 j := by
  unfold mtest mset
  simp [h]
theorem r1o_abc {ln p : Nat} {ch : Nat → Nat} (h : hIn ln ch p 97 102 = true) : r1o ln ch false p 9 = some (ch p - 97) := by
  have hq := of_decide_eq_true h
  unfold r1o
  rw [if_pos ⟨rfl, hq.1⟩, fIx_abc, if_pos hq.2]
theorem r1o_abcN {ln p : Nat} {ch : Nat → Nat} {w : Bool} (h : hIn ln ch p 97 102 = false) : r1o ln ch w p 9 = none := by
  unfold r1o
  by_cases hq : w = false ∧ p < ln
  · rw [if_pos hq, fIx_abc, if_neg (fun e => of_decide_eq_false h ⟨hq.2, e⟩)]
  · rw [if_neg hq]
theorem r1o_t {ln p i : Nat} {ch : Nat → Nat} : r1o ln ch true p i = none := by
  unfold r1o
  rw [if_neg (fun e => by cases e.1)]
theorem r1o_sg {ln p : Nat} {ch : Nat → Nat} {s : Nat} (h : p < ln) (hs : sgX (ch p) = some s) : r1o ln ch false p 10 = some s := by
  unfold r1o
  rw [if_pos ⟨rfl, h⟩, fIx_sg, hs]
theorem r1o_sgN {ln p : Nat} {ch : Nat → Nat} {w : Bool} (h : p < ln → sgX (ch p) = none) : r1o ln ch w p 10 = none := by
  unfold r1o
  by_cases hq : w = false ∧ p < ln
  · rw [if_pos hq, fIx_sg, h hq.2]
  · rw [if_neg hq]

theorem SP_X6_readTest_w {d : Nat} {g : xG} {m : Nat} {S : xMS} (hM : xMod g m) (hSC : xSC g) {ln p : Nat} {ch : Nat → Nat} (hl : S 0 22 = nI ln) (hln : ln ≤ 60) (hch : ∀ j, j < ln → S 12 j = nI (ch j) ∧ ch j < 65536) (hp : p ≤ ln) : XM M_X6_readTest (d + 5) [.ref m] (xWith g m (rdS S true p)) (xOne none (xWith g m (rdS S true p))) := by
  refine xm_of (by decide +kernel) (Nat.le_of_ble_eq_true rfl) ?_
  show XW _ _ 0 [(0, _)] [] _ _
  refine xw_aload_n (pc := 0) dX6_readTest_0 0 rfl ?_
  refine xw_ldcwS (i := 9) (pc := 1) dX6_readTest_1 rfl ?_
  refine xw_callV (pc := 4) (xr_V (as := [_]) ok_X6_oneOf rfl (by decide) q2681 q2683 qs83 (by rw [xtag_with, hM.1]; rfl) (by rw [xtag_with, hM.1]; rfl) dX6_readTest_4 rfl rfl (Nat.le_of_ble_eq_true rfl)) (SP_X6_oneOf_F (w := true) hM (i := 9) (by decide) hSC hl hln hch hp r1o_t) ?_
  refine xw_istore_n (l' := [(1, _), (0, _)]) (pc := 7) dX6_readTest_7 rfl (by decide) rfl ?_
  refine xw_aload_n (pc := 8) dX6_readTest_8 1 rfl ?_
  refine xw_ldcwS (i := 10) (pc := 9) dX6_readTest_9 rfl ?_
  refine xw_callV (pc := 12) (xr_V (as := [_]) ok_X6_oneOf rfl (by decide) q2681 q2683 qs83 (by rw [xtag_with, hM.1]; rfl) (by rw [xtag_with, hM.1]; rfl) dX6_readTest_12 rfl rfl (Nat.le_of_ble_eq_true rfl)) (SP_X6_oneOf_F (w := true) hM (i := 10) (by decide) hSC hl hln hch hp r1o_t) ?_
  refine xw_istore_n (l' := [(2, _), (1, _), (0, _)]) (pc := 15) dX6_readTest_15 rfl (by decide) rfl ?_
  refine xw_aload_n (pc := 16) dX6_readTest_16 2 rfl ?_
  refine xw_callV (pc := 17) (xr_V (as := []) ok_X6_digit rfl (by decide) q2690 q2692 qs85 (by rw [xtag_with, hM.1]; rfl) (by rw [xtag_with, hM.1]; rfl) dX6_readTest_17 rfl rfl (Nat.le_of_ble_eq_true rfl)) (SP_X6_digit_F (w := true) hM hl hln hch hp rfl) ?_
  refine xw_istore_n (l' := [(3, _), (2, _), (1, _), (0, _)]) (pc := 20) dX6_readTest_20 rfl (by decide) rfl ?_
  refine xw_aload_n (pc := 21) dX6_readTest_21 3 rfl ?_
  refine xm_getB (b := true) (pc := 22) hM fd_X6_255 dX6_readTest_22 (by rfl) ?_
  refine xw_if_ne (pc := 25) 35 dX6_readTest_25 rfl (fun _ => ?_) (fun hb => absurd hb (by decide))
  refine xw_vret (pc := 35) dX6_readTest_35 rfl ?_
  exact ⟨rfl, rfl⟩
theorem SP_X6_readTest_0 {d : Nat} {g : xG} {m : Nat} {S : xMS} (hM : xMod g m) (hSC : xSC g) {ln p : Nat} {ch : Nat → Nat} (hl : S 0 22 = nI ln) (hln : ln ≤ 60) (hch : ∀ j, j < ln → S 12 j = nI (ch j) ∧ ch j < 65536) (hp : p ≤ ln) (hI : hIn ln ch p 97 102 = false) : XM M_X6_readTest (d + 5) [.ref m] (xWith g m (rdS S false p)) (xOne none (xWith g m (rdS S true p))) := by
  refine xm_of (by decide +kernel) (Nat.le_of_ble_eq_true rfl) ?_
  show XW _ _ 0 [(0, _)] [] _ _
  refine xw_aload_n (pc := 0) dX6_readTest_0 0 rfl ?_
  refine xw_ldcwS (i := 9) (pc := 1) dX6_readTest_1 rfl ?_
  refine xw_callV (pc := 4) (xr_V (as := [_]) ok_X6_oneOf rfl (by decide) q2681 q2683 qs83 (by rw [xtag_with, hM.1]; rfl) (by rw [xtag_with, hM.1]; rfl) dX6_readTest_4 rfl rfl (Nat.le_of_ble_eq_true rfl)) (SP_X6_oneOf_F (w := false) hM (i := 9) (by decide) hSC hl hln hch hp (r1o_abcN hI)) ?_
  refine xw_istore_n (l' := [(1, _), (0, _)]) (pc := 7) dX6_readTest_7 rfl (by decide) rfl ?_
  refine xw_aload_n (pc := 8) dX6_readTest_8 1 rfl ?_
  refine xw_ldcwS (i := 10) (pc := 9) dX6_readTest_9 rfl ?_
  refine xw_callV (pc := 12) (xr_V (as := [_]) ok_X6_oneOf rfl (by decide) q2681 q2683 qs83 (by rw [xtag_with, hM.1]; rfl) (by rw [xtag_with, hM.1]; rfl) dX6_readTest_12 rfl rfl (Nat.le_of_ble_eq_true rfl)) (SP_X6_oneOf_F (w := true) hM (i := 10) (by decide) hSC hl hln hch hp r1o_t) ?_
  refine xw_istore_n (l' := [(2, _), (1, _), (0, _)]) (pc := 15) dX6_readTest_15 rfl (by decide) rfl ?_
  refine xw_aload_n (pc := 16) dX6_readTest_16 2 rfl ?_
  refine xw_callV (pc := 17) (xr_V (as := []) ok_X6_digit rfl (by decide) q2690 q2692 qs85 (by rw [xtag_with, hM.1]; rfl) (by rw [xtag_with, hM.1]; rfl) dX6_readTest_17 rfl rfl (Nat.le_of_ble_eq_true rfl)) (SP_X6_digit_F (w := true) hM hl hln hch hp rfl) ?_
  refine xw_istore_n (l' := [(3, _), (2, _), (1, _), (0, _)]) (pc := 20) dX6_readTest_20 rfl (by decide) rfl ?_
  refine xw_aload_n (pc := 21) dX6_readTest_21 3 rfl ?_
  refine xm_getB (b := true) (pc := 22) hM fd_X6_255 dX6_readTest_22 (by rfl) ?_
  refine xw_if_ne (pc := 25) 35 dX6_readTest_25 rfl (fun _ => ?_) (fun hb => absurd hb (by decide))
  refine xw_vret (pc := 35) dX6_readTest_35 rfl ?_
  exact ⟨rfl, rfl⟩
theorem SP_X6_readTest_1 {d : Nat} {g : xG} {m : Nat} {S : xMS} (hM : xMod g m) (hSC : xSC g) {ln p : Nat} {ch : Nat → Nat} (hl : S 0 22 = nI ln) (hln : ln ≤ 60) (hch : ∀ j, j < ln → S 12 j = nI (ch j) ∧ ch j < 65536) (hp : p ≤ ln) (hI : hIn ln ch p 97 102 = true) (hs : p + 1 < ln → sgX (ch (p + 1)) = none) : XM M_X6_readTest (d + 5) [.ref m] (xWith g m (rdS S false p)) (xOne none (xWith g m (rdS S true (p + 1)))) := by
  have hq := of_decide_eq_true hI
  refine xm_of (by decide +kernel) (Nat.le_of_ble_eq_true rfl) ?_
  show XW _ _ 0 [(0, _)] [] _ _
  refine xw_aload_n (pc := 0) dX6_readTest_0 0 rfl ?_
  refine xw_ldcwS (i := 9) (pc := 1) dX6_readTest_1 rfl ?_
  refine xw_callV (pc := 4) (xr_V (as := [_]) ok_X6_oneOf rfl (by decide) q2681 q2683 qs83 (by rw [xtag_with, hM.1]; rfl) (by rw [xtag_with, hM.1]; rfl) dX6_readTest_4 rfl rfl (Nat.le_of_ble_eq_true rfl)) (SP_X6_oneOf_T (w := false) hM (i := 9) (by decide) hSC hl hln hch hp (r1o_abc hI)) ?_
  refine xw_istore_n (l' := [(1, _), (0, _)]) (pc := 7) dX6_readTest_7 rfl (by decide) rfl ?_
  refine xw_aload_n (pc := 8) dX6_readTest_8 1 rfl ?_
  refine xw_ldcwS (i := 10) (pc := 9) dX6_readTest_9 rfl ?_
  refine xw_callV (pc := 12) (xr_V (as := [_]) ok_X6_oneOf rfl (by decide) q2681 q2683 qs83 (by rw [xtag_with, hM.1]; rfl) (by rw [xtag_with, hM.1]; rfl) dX6_readTest_12 rfl rfl (Nat.le_of_ble_eq_true rfl)) (SP_X6_oneOf_F (w := false) hM (i := 10) (by decide) hSC hl hln hch (by omega) (r1o_sgN hs)) ?_
  refine xw_istore_n (l' := [(2, _), (1, _), (0, _)]) (pc := 15) dX6_readTest_15 rfl (by decide) rfl ?_
  refine xw_aload_n (pc := 16) dX6_readTest_16 2 rfl ?_
  refine xw_callV (pc := 17) (xr_V (as := []) ok_X6_digit rfl (by decide) q2690 q2692 qs85 (by rw [xtag_with, hM.1]; rfl) (by rw [xtag_with, hM.1]; rfl) dX6_readTest_17 rfl rfl (Nat.le_of_ble_eq_true rfl)) (SP_X6_digit_F (w := true) hM hl hln hch (by omega) rfl) ?_
  refine xw_istore_n (l' := [(3, _), (2, _), (1, _), (0, _)]) (pc := 20) dX6_readTest_20 rfl (by decide) rfl ?_
  refine xw_aload_n (pc := 21) dX6_readTest_21 3 rfl ?_
  refine xm_getB (b := true) (pc := 22) hM fd_X6_255 dX6_readTest_22 (by rfl) ?_
  refine xw_if_ne (pc := 25) 35 dX6_readTest_25 rfl (fun _ => ?_) (fun hb => absurd hb (by decide))
  refine xw_vret (pc := 35) dX6_readTest_35 rfl ?_
  exact ⟨rfl, rfl⟩
theorem SP_X6_readTest_2 {d : Nat} {g : xG} {m : Nat} {S : xMS} (hM : xMod g m) {s : Nat} (hSC : xSC g) {ln p : Nat} {ch : Nat → Nat} (hl : S 0 22 = nI ln) (hln : ln ≤ 60) (hch : ∀ j, j < ln → S 12 j = nI (ch j) ∧ ch j < 65536) (hp : p ≤ ln) (hI : hIn ln ch p 97 102 = true) (h1 : p + 1 < ln) (hs : sgX (ch (p + 1)) = some s) (h2 : hIn ln ch (p + 1 + 1) 48 57 = false) : XM M_X6_readTest (d + 5) [.ref m] (xWith g m (rdS S false p)) (xOne none (xWith g m (rdS S true (p + 1 + 1)))) := by
  have hq := of_decide_eq_true hI
  refine xm_of (by decide +kernel) (Nat.le_of_ble_eq_true rfl) ?_
  show XW _ _ 0 [(0, _)] [] _ _
  refine xw_aload_n (pc := 0) dX6_readTest_0 0 rfl ?_
  refine xw_ldcwS (i := 9) (pc := 1) dX6_readTest_1 rfl ?_
  refine xw_callV (pc := 4) (xr_V (as := [_]) ok_X6_oneOf rfl (by decide) q2681 q2683 qs83 (by rw [xtag_with, hM.1]; rfl) (by rw [xtag_with, hM.1]; rfl) dX6_readTest_4 rfl rfl (Nat.le_of_ble_eq_true rfl)) (SP_X6_oneOf_T (w := false) hM (i := 9) (by decide) hSC hl hln hch hp (r1o_abc hI)) ?_
  refine xw_istore_n (l' := [(1, _), (0, _)]) (pc := 7) dX6_readTest_7 rfl (by decide) rfl ?_
  refine xw_aload_n (pc := 8) dX6_readTest_8 1 rfl ?_
  refine xw_ldcwS (i := 10) (pc := 9) dX6_readTest_9 rfl ?_
  refine xw_callV (pc := 12) (xr_V (as := [_]) ok_X6_oneOf rfl (by decide) q2681 q2683 qs83 (by rw [xtag_with, hM.1]; rfl) (by rw [xtag_with, hM.1]; rfl) dX6_readTest_12 rfl rfl (Nat.le_of_ble_eq_true rfl)) (SP_X6_oneOf_T (w := false) hM (i := 10) (by decide) hSC hl hln hch (by omega) (r1o_sg h1 hs)) ?_
  refine xw_istore_n (l' := [(2, _), (1, _), (0, _)]) (pc := 15) dX6_readTest_15 rfl (by decide) rfl ?_
  refine xw_aload_n (pc := 16) dX6_readTest_16 2 rfl ?_
  refine xw_callV (pc := 17) (xr_V (as := []) ok_X6_digit rfl (by decide) q2690 q2692 qs85 (by rw [xtag_with, hM.1]; rfl) (by rw [xtag_with, hM.1]; rfl) dX6_readTest_17 rfl rfl (Nat.le_of_ble_eq_true rfl)) (SP_X6_digit_F (w := false) hM hl hln hch (by omega) h2) ?_
  refine xw_istore_n (l' := [(3, _), (2, _), (1, _), (0, _)]) (pc := 20) dX6_readTest_20 rfl (by decide) rfl ?_
  refine xw_aload_n (pc := 21) dX6_readTest_21 3 rfl ?_
  refine xm_getB (b := true) (pc := 22) hM fd_X6_255 dX6_readTest_22 (by rfl) ?_
  refine xw_if_ne (pc := 25) 35 dX6_readTest_25 rfl (fun _ => ?_) (fun hb => absurd hb (by decide))
  refine xw_vret (pc := 35) dX6_readTest_35 rfl ?_
  exact ⟨rfl, rfl⟩
theorem SP_X6_readTest_3 {d : Nat} {g : xG} {m : Nat} {S : xMS} (hM : xMod g m) {s k : Nat} (hSC : xSC g) {ln p : Nat} {ch : Nat → Nat} (hl : S 0 22 = nI ln) (hln : ln ≤ 60) (hch : ∀ j, j < ln → S 12 j = nI (ch j) ∧ ch j < 65536) (hp : p ≤ ln) (hk : k < 60) (h11 : S 0 11 = nI k) (hI : hIn ln ch p 97 102 = true) (h1 : p + 1 < ln) (hs : sgX (ch (p + 1)) = some s) (h2 : hIn ln ch (p + 1 + 1) 48 57 = true) : XM M_X6_readTest (d + 5) [.ref m] (xWith g m (rdS S false p)) (xOne none (xWith g m (rdS (mtest S k (nI (ch p - 97)) (nI s) (nI (ch (p + 1 + 1) - 48))) false (p + 3)))) := by
  have hq := of_decide_eq_true hI
  refine xm_of (by decide +kernel) (Nat.le_of_ble_eq_true rfl) ?_
  show XW _ _ 0 [(0, _)] [] _ _
  refine xw_aload_n (pc := 0) dX6_readTest_0 0 rfl ?_
  refine xw_ldcwS (i := 9) (pc := 1) dX6_readTest_1 rfl ?_
  refine xw_callV (pc := 4) (xr_V (as := [_]) ok_X6_oneOf rfl (by decide) q2681 q2683 qs83 (by rw [xtag_with, hM.1]; rfl) (by rw [xtag_with, hM.1]; rfl) dX6_readTest_4 rfl rfl (Nat.le_of_ble_eq_true rfl)) (SP_X6_oneOf_T (w := false) hM (i := 9) (by decide) hSC hl hln hch hp (r1o_abc hI)) ?_
  refine xw_istore_n (l' := [(1, _), (0, _)]) (pc := 7) dX6_readTest_7 rfl (by decide) rfl ?_
  refine xw_aload_n (pc := 8) dX6_readTest_8 1 rfl ?_
  refine xw_ldcwS (i := 10) (pc := 9) dX6_readTest_9 rfl ?_
  refine xw_callV (pc := 12) (xr_V (as := [_]) ok_X6_oneOf rfl (by decide) q2681 q2683 qs83 (by rw [xtag_with, hM.1]; rfl) (by rw [xtag_with, hM.1]; rfl) dX6_readTest_12 rfl rfl (Nat.le_of_ble_eq_true rfl)) (SP_X6_oneOf_T (w := false) hM (i := 10) (by decide) hSC hl hln hch (by omega) (r1o_sg h1 hs)) ?_
  refine xw_istore_n (l' := [(2, _), (1, _), (0, _)]) (pc := 15) dX6_readTest_15 rfl (by decide) rfl ?_
  refine xw_aload_n (pc := 16) dX6_readTest_16 2 rfl ?_
  refine xw_callV (pc := 17) (xr_V (as := []) ok_X6_digit rfl (by decide) q2690 q2692 qs85 (by rw [xtag_with, hM.1]; rfl) (by rw [xtag_with, hM.1]; rfl) dX6_readTest_17 rfl rfl (Nat.le_of_ble_eq_true rfl)) (SP_X6_digit_T (w := false) hM hl hln hch (by omega) h2) ?_
  refine xw_istore_n (l' := [(3, _), (2, _), (1, _), (0, _)]) (pc := 20) dX6_readTest_20 rfl (by decide) rfl ?_
  refine xw_aload_n (pc := 21) dX6_readTest_21 3 rfl ?_
  refine xm_getB (b := false) (pc := 22) hM fd_X6_255 dX6_readTest_22 (by rfl) ?_
  refine xw_if_ne (pc := 25) 35 dX6_readTest_25 rfl (fun hb => absurd hb (by decide)) (fun _ => ?_)
  refine xw_aload_n (pc := 28) dX6_readTest_28 3 rfl ?_
  refine xw_iload_n (pc := 29) dX6_readTest_29 2 rfl ?_
  refine xw_iload_n (pc := 30) dX6_readTest_30 1 rfl ?_
  refine xw_iload_n (pc := 31) dX6_readTest_31 0 rfl ?_
  refine xw_callU (pc := 32) (xr_V (as := [_, _, _]) ok_X6_moreTest rfl (by decide) q2453 q2455 qs61 (by rw [xtag_with, hM.1]; rfl) (by rw [xtag_with, hM.1]; rfl) dX6_readTest_32 rfl rfl (Nat.le_of_ble_eq_true rfl)) (SP_X6_moreTest hM k hk ((rdS_0 (by decide) (by decide)).trans h11)) ?_
  refine xw_vret (pc := 35) dX6_readTest_35 rfl ?_
  rw [rdS_mtest]
  exact ⟨rfl, rfl⟩
theorem SP_X6_readTest_E {d : Nat} {g : xG} {m : Nat} {S : xMS} (hM : xMod g m) {e : Nat} (hSC : xSC g) {ln p : Nat} {ch : Nat → Nat} (hl : S 0 22 = nI ln) (hln : ln ≤ 60) (hch : ∀ j, j < ln → S 12 j = nI (ch j) ∧ ch j < 65536) (hp : p ≤ ln) (h : rTo ln ch p = .error e) : XM M_X6_readTest (d + 5) [.ref m] (xWith g m (rdS S false p)) (xOne none (xWith g m (rdS S true e))) := by
  unfold rTo at h
  by_cases hI : hIn ln ch p 97 102 = true
  · rw [if_pos hI] at h
    by_cases h1 : p + 1 < ln
    · rw [if_pos h1] at h
      cases hs : sgX (ch (p + 1)) with
      | none =>
        rw [hs] at h
        cases h
        exact SP_X6_readTest_1 hM hSC hl hln hch hp hI (fun _ => hs)
      | some s =>
        rw [hs] at h
        dsimp only at h
        by_cases h2 : hIn ln ch (p + 2) 48 57 = true
        · rw [if_pos h2] at h; cases h
        · rw [if_neg h2] at h
          cases h
          exact SP_X6_readTest_2 hM hSC hl hln hch hp hI h1 hs (Bool.eq_false_iff.mpr h2)
    · rw [if_neg h1] at h
      cases h
      exact SP_X6_readTest_1 hM hSC hl hln hch hp hI (fun h9 => absurd h9 h1)
  · rw [if_neg hI] at h
    cases h
    exact SP_X6_readTest_0 hM hSC hl hln hch hp (Bool.eq_false_iff.mpr hI)
theorem SP_X6_readTest_O {d : Nat} {g : xG} {m : Nat} {S : xMS} (hM : xMod g m) {t : xT3} {k : Nat} (hSC : xSC g) {ln p : Nat} {ch : Nat → Nat} (hl : S 0 22 = nI ln) (hln : ln ≤ 60) (hch : ∀ j, j < ln → S 12 j = nI (ch j) ∧ ch j < 65536) (hp : p ≤ ln) (hk : k < 60) (h11 : S 0 11 = nI k) (h : rTo ln ch p = .ok t) : XM M_X6_readTest (d + 5) [.ref m] (xWith g m (rdS S false p)) (xOne none (xWith g m (rdS (mtest S k (nI t.1) (nI t.2.1) (nI t.2.2)) false (p + 3)))) := by
  unfold rTo at h
  by_cases hI : hIn ln ch p 97 102 = true
  · rw [if_pos hI] at h
    by_cases h1 : p + 1 < ln
    · rw [if_pos h1] at h
      cases hs : sgX (ch (p + 1)) with
      | none => rw [hs] at h; cases h
      | some s =>
        rw [hs] at h
        dsimp only at h
        by_cases h2 : hIn ln ch (p + 2) 48 57 = true
        · rw [if_pos h2] at h
          cases h
          exact SP_X6_readTest_3 hM hSC hl hln hch hp hk h11 hI h1 hs h2
        · rw [if_neg h2] at h; cases h
    · rw [if_neg h1] at h; cases h
  · rw [if_neg hI] at h; cases h
