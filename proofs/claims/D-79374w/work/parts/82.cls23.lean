/-! CLASS 23: sets of bits; holds, found again -/
set_option maxRecDepth 100000
theorem hD32 : ∀ k, k < 32 → ((nI k &&& 31).toBitVec.smod 32).toNat = k := by decide
theorem nI_lor (a b : Nat) : nI a ||| nI b = nI (a ||| b) := by
  apply Int32.toBitVec_inj.mp
  show BitVec.ofNat 32 a ||| BitVec.ofNat 32 b = BitVec.ofNat 32 (a ||| b)
  apply BitVec.eq_of_getLsbD_eq
  intro i hi
  simp [hi]
theorem or_pow {v k : Nat} (h : v < 2 ^ k) : v ||| 2 ^ k = v + 2 ^ k := by
  have e := Nat.two_pow_add_eq_or_of_lt h 1
  rw [Nat.mul_one] at e
  rw [Nat.or_comm, ← e, Nat.add_comm]
theorem bN_orG {k v : Nat} (hk : k < 31) (h : v < 2 ^ k) : nI v ||| (nI 1 <<< (nI k &&& 31)) = nI (v + 2 ^ k) := by
  rw [nI_shl (hD32 k (by omega)), Nat.one_mul, nI_lor, or_pow h]
theorem bset_bNG {P : Nat → Bool} : ∀ k, k ≤ 31 → bset P k = nI (bN P k) := by
  intro k
  induction k with
  | zero => intro _; rfl
  | succ k ih =>
    intro hk
    rw [bset, bN, ih (by omega)]
    cases P k with
    | true => exact bN_orG (by omega) bN_lt
    | false => exact or_0 _
theorem has_eq {v k : Nat} (hv : v < 2 ^ 31) (hk : k < 32) : ((nI v >>> (nI k &&& 31)) &&& nI 1 = nI 1) ↔ v.testBit k = true := by
  rw [nI_shr (hD32 k hk) hv, nI_land, nI_eq (Nat.lt_of_le_of_lt Nat.and_le_left (Nat.lt_of_le_of_lt (Nat.div_le_self _ _) hv)) (by decide), Nat.testBit_eq_decide_div_mod_eq, Nat.and_one_is_mod, decide_eq_true_iff]
theorem tb_bN {P : Nat → Bool} {j : Nat} : ∀ k, (bN P k).testBit j = (decide (j < k) && P j) := by
  intro k
  induction k with
  | zero => show (0 : Nat).testBit j = _; simp
  | succ k ih =>
    rw [bN]
    cases hP : P k with
    | false =>
      rw [if_neg (by decide), Nat.add_zero, ih]
      by_cases e : j = k
      · subst e; rw [hP]; simp
      · rw [show decide (j < k + 1) = decide (j < k) from by by_cases h : j < k <;> simp [h] <;> omega]
    | true =>
      rw [if_pos rfl, ← or_pow bN_lt, Nat.testBit_or, ih, Nat.testBit_two_pow]
      by_cases e : j = k
      · subst e; rw [hP]; simp
      · rw [show decide (j < k + 1) = decide (j < k) from by by_cases h : j < k <;> simp [h] <;> omega, show decide (k = j) = false from decide_eq_false (fun h => e h.symm), Bool.or_false]
theorem pcN_addG {k : Nat} : ∀ v, v < 2 ^ k → pcN (v + 2 ^ k) = pcN v + 1 := by
  have h2 := Nat.two_pow_pos k
  intro v
  induction v using Nat.strongRecOn with
  | _ v ih =>
    intro hv
    rw [pcN, dif_neg (by omega)]
    by_cases h0 : v = 0
    · subst h0
      rw [Nat.zero_add, Nat.and_two_pow_sub_one_eq_mod, Nat.mod_self]
    · have h1 : v &&& (v - 1) ≤ v - 1 := Nat.and_le_right
      have hA : (v + 2 ^ k) &&& (v + 2 ^ k - 1) = (v &&& (v - 1)) + 2 ^ k := by
        rw [show v + 2 ^ k - 1 = (v - 1) + 2 ^ k from by omega, ← or_pow hv, ← or_pow (show v - 1 < 2 ^ k by omega), ← or_pow (show v &&& (v - 1) < 2 ^ k by omega)]
        apply Nat.eq_of_testBit_eq
        intro i
        simp only [Nat.testBit_or, Nat.testBit_and]
        cases v.testBit i <;> cases (v - 1).testBit i <;> cases (2 ^ k).testBit i <;> rfl
      rw [hA, ih (v &&& (v - 1)) (by omega) (by omega)]
      have e : pcN v = pcN (v &&& (v - 1)) + 1 := by rw [pcN, dif_neg h0]
      rw [e]
theorem pcN_bNG {P : Nat → Bool} : ∀ k, pcN (bN P k) = cntB P k := by
  intro k
  induction k with
  | zero => rw [bN, pcN]; rfl
  | succ k ih =>
    rw [bN, cntB]
    cases hP : P k with
    | true => rw [if_pos rfl, if_pos rfl, pcN_addG _ bN_lt, ih]
    | false => rw [if_neg (by decide), if_neg (by decide), Nat.add_zero, Nat.add_zero, ih]
theorem SP_X1_has {d : Nat} {g : xG} {v k : Nat} (hv : v < 2 ^ 31) (hk : k < 32) : XM M_X1_has d [.int (nI v), .int (nI k)] g (xOne (some (.int (bI (v.testBit k)))) g) := by
  refine xm_of (by decide +kernel) (Nat.le_of_ble_eq_true rfl) ?_
  show XW _ _ 0 [(0, _), (1, _)] [] _ _
  refine xw_iload_n (pc := 0) dX1_has_0 0 rfl ?_
  refine xw_iload_n (pc := 1) dX1_has_1 1 rfl ?_
  refine xw_ishr (pc := 2) dX1_has_2 ?_
  refine xw_iconst (v := nI 1) (pc := 3) dX1_has_3 rfl ?_
  refine xw_iand (pc := 4) dX1_has_4 ?_
  refine xw_iconst (v := nI 1) (pc := 5) dX1_has_5 rfl ?_
  refine xw_icmp_ne (pc := 6) 13 dX1_has_6 rfl (fun hb6 => ?_) (fun hb6 => ?_)
  · refine xw_iconst (v := nI 0) (pc := 13) dX1_has_13 rfl ?_
    refine xw_iret (pc := 14) .boolean dX1_has_14 rfl ?_ 
    refine ⟨congrArg (fun x => Sum.inl (some (Value.int x))) ?_, rfl⟩
    first
    | (rw [(has_eq hv hk).mp hb6]; rfl)
    | (rw [Bool.eq_false_iff.mpr (fun e => hb6 ((has_eq hv hk).mpr e))]; rfl)
  · refine xw_iconst (v := nI 1) (pc := 9) dX1_has_9 rfl ?_
    refine xw_goto (pc := 10) 14 dX1_has_10 rfl ?_
    refine xw_iret (pc := 14) .boolean dX1_has_14 rfl ?_ 
    refine ⟨congrArg (fun x => Sum.inl (some (Value.int x))) ?_, rfl⟩
    first
    | (rw [(has_eq hv hk).mp hb6]; rfl)
    | (rw [Bool.eq_false_iff.mpr (fun e => hb6 ((has_eq hv hk).mpr e))]; rfl)

theorem lp_X1_many {d : Nat} {g : xG} {a : Int32} : ∀ (v c : Nat), v < 100000 → c + pcN v < 200000 → XW M_X1_many d 4 [(2, .int (nI v)), (1, .int (nI c)), (0, .int a)] [] g (xOne (some (.int (nI (c + pcN v)))) g) := by
  intro v
  induction v using Nat.strongRecOn with
  | _ v ih =>
  intro c hv hc
  have h1 : v &&& (v - 1) ≤ v - 1 := Nat.and_le_right
  refine xw_iload_n (pc := 4) dX1_many_4 0 rfl ?_
  refine xw_if_eq (pc := 5) 20 dX1_many_5 rfl (fun hb5 => ?_) (fun hb5 => ?_)
  · replace hb5 : v = 0 := (nI_eq (a := v) (b := 0) (by omega) (by omega)).mp hb5
    refine xw_iload_n (pc := 20) dX1_many_20 1 rfl ?_
    refine xw_iret (pc := 21) .int dX1_many_21 rfl ?_ 
    rw [hb5, show pcN 0 = 0 from by rw [pcN]; rfl]
    exact ⟨rfl, rfl⟩
  · replace hb5 : ¬ (v = 0) := mt (nI_eq (a := v) (b := 0) (by omega) (by omega)).mpr hb5
    refine xw_iinc (v := nI (c + 1)) (l' := [(1, _), (2, _), (0, _)]) (pc := 8) dX1_many_8 1 rfl (nI_add _ 1) (by decide) rfl ?_
    refine xw_iload_n (pc := 11) dX1_many_11 1 rfl ?_
    refine xw_iload_n (pc := 12) dX1_many_12 1 rfl ?_
    refine xw_iconst (v := nI 1) (pc := 13) dX1_many_13 rfl ?_
    refine xn_isub (pc := 14) dX1_many_14 (by omega) ?_
    refine xw_iand (pc := 15) dX1_many_15 ?_
    refine xw_istore_n (l' := [(2, _), (1, _), (0, _)]) (pc := 16) dX1_many_16 rfl (by decide) rfl ?_
    refine xw_goto (pc := 17) 4 dX1_many_17 rfl ?_
    rw [nI_land]
    rw [pcN, dif_neg hb5] at hc ⊢
    have h := ih (v &&& (v - 1)) (by omega) (c + 1) (by omega) (by omega)
    rw [show c + 1 + pcN (v &&& (v - 1)) = c + (pcN (v &&& (v - 1)) + 1) from by omega] at h
    exact h
theorem SP_X1_many {d : Nat} {g : xG} (v : Nat) (hv : v < 100000) : XM M_X1_many d [.int (nI v)] g (xOne (some (.int (nI (pcN v)))) g) := by
  have hp := pcN_le v
  refine xm_of (by decide +kernel) (Nat.le_of_ble_eq_true rfl) ?_
  show XW _ _ 0 [(0, _)] [] _ _
  refine xw_iconst (v := nI 0) (pc := 0) dX1_many_0 rfl ?_
  refine xw_istore_n (l' := [(1, _), (0, _)]) (pc := 1) dX1_many_1 rfl (by decide) rfl ?_
  refine xw_iload_n (pc := 2) dX1_many_2 1 rfl ?_
  refine xw_istore_n (l' := [(2, _), (1, _), (0, _)]) (pc := 3) dX1_many_3 rfl (by decide) rfl ?_
  have h := lp_X1_many (d := d) (g := g) (a := nI v) v 0 hv (by omega)
  rw [Nat.zero_add] at h
  exact h
theorem lp_X1_bitOf {d : Nat} {g : xG} {P : Nat → Bool} {rr i : Nat} {a : Int32} (hr : rr ≤ 16) (hi : i < 1000) : ∀ (j k c r : Nat), k + j = rr → c ≤ i → rvK P (nI i) j k c = some r → XW M_X1_bitOf (d + 1) 4 [(3, .int (nI k)), (2, .int (nI (i - c))), (0, .int (nI (bN P rr))), (1, .int a)] [] g (xOne (some (.int (nI r))) g) := by
  have hlt : bN P rr < 2 ^ 31 := Nat.lt_of_lt_of_le bN_lt (Nat.pow_le_pow_right (by decide) (by omega))
  intro j
  induction j with
  | zero => intro k c r hkj hc h; cases h
  | succ j ih =>
    intro k c r hkj hc h
    have hb : (bN P rr).testBit k = P k := by rw [tb_bN, decide_eq_true (show k < rr by omega), Bool.true_and]
    have hh := SP_X1_has (d := d) (g := g) (v := bN P rr) (k := k) hlt (by omega)
    rw [hb] at hh
    rw [rvK] at h
    refine xw_iload_n (pc := 4) dX1_bitOf_4 2 rfl ?_
    refine xw_iload_n (pc := 5) dX1_bitOf_5 0 rfl ?_
    refine xw_callV (pc := 6) (xr_S (as := [_, _]) ok_X1_has rfl (by decide) q1584 q1542 dX1_bitOf_6 rfl rfl (Nat.le_of_ble_eq_true rfl)) (hh) ?_
    refine xw_if_eq (pc := 9) 16 dX1_bitOf_9 rfl (fun hb9 => ?_) (fun hb9 => ?_)
    · replace hb9 := bI_0.mp hb9
      refine xw_iload_n (pc := 16) dX1_bitOf_16 1 rfl ?_
      refine xw_iload_n (pc := 17) dX1_bitOf_17 2 rfl ?_
      refine xw_iload_n (pc := 18) dX1_bitOf_18 0 rfl ?_
      refine xw_callV (pc := 19) (xr_S (as := [_, _]) ok_X1_has rfl (by decide) q1584 q1542 dX1_bitOf_19 rfl rfl (Nat.le_of_ble_eq_true rfl)) (hh) ?_
      refine xw_if_eq (pc := 22) 29 dX1_bitOf_22 rfl (fun hb22 => ?_) (fun hb22 => ?_)
      · replace hb22 := bI_0.mp hb22
        refine xw_iconst (v := nI 0) (pc := 29) dX1_bitOf_29 rfl ?_
        refine xn_isub (pc := 30) dX1_bitOf_30 (by (first | omega | (exfalso; rw [hb9] at hb22; cases hb22))) ?_
        refine xw_istore_n (l' := [(2, _), (3, _), (0, _), (1, _)]) (pc := 31) dX1_bitOf_31 rfl (by decide) rfl ?_
        refine xw_iinc (v := nI (k + 1)) (l' := [(3, _), (2, _), (0, _), (1, _)]) (pc := 32) dX1_bitOf_32 1 rfl (nI_add _ 1) (by decide) rfl ?_
        refine xw_goto (pc := 35) 4 dX1_bitOf_35 rfl ?_
        first
        | (have hP : P k = false := by first | exact hb9 | exact hb22
           rw [hP, if_neg (by decide)] at h
           have h9 := ih (k + 1) c r (by omega) hc h
           rw [show i - c - 0 = i - c from by omega]
           exact h9)
        | (have hP : P k = true := by first | exact hb22 | exact hb9
           rw [hP, if_pos rfl, if_neg (fun e => by have := (nI_eq (a := c) (b := i) (by omega) (by omega)).mp e; omega)] at h
           have h9 := ih (k + 1) (c + 1) r (by omega) (by omega) h
           rw [show i - (c + 1) = i - c - 1 from by omega] at h9
           exact h9)
        | (exfalso; rw [hb9] at hb22; cases hb22)
      · replace hb22 := bI_n0.mp hb22
        refine xw_iconst (v := nI 1) (pc := 25) dX1_bitOf_25 rfl ?_
        refine xw_goto (pc := 26) 30 dX1_bitOf_26 rfl ?_
        refine xn_isub (pc := 30) dX1_bitOf_30 (by (first | omega | (exfalso; rw [hb9] at hb22; cases hb22))) ?_
        refine xw_istore_n (l' := [(2, _), (3, _), (0, _), (1, _)]) (pc := 31) dX1_bitOf_31 rfl (by decide) rfl ?_
        refine xw_iinc (v := nI (k + 1)) (l' := [(3, _), (2, _), (0, _), (1, _)]) (pc := 32) dX1_bitOf_32 1 rfl (nI_add _ 1) (by decide) rfl ?_
        refine xw_goto (pc := 35) 4 dX1_bitOf_35 rfl ?_
        first
        | (have hP : P k = false := by first | exact hb9 | exact hb22
           rw [hP, if_neg (by decide)] at h
           have h9 := ih (k + 1) c r (by omega) hc h
           rw [show i - c - 0 = i - c from by omega]
           exact h9)
        | (have hP : P k = true := by first | exact hb22 | exact hb9
           rw [hP, if_pos rfl, if_neg (fun e => by have := (nI_eq (a := c) (b := i) (by omega) (by omega)).mp e; omega)] at h
           have h9 := ih (k + 1) (c + 1) r (by omega) (by omega) h
           rw [show i - (c + 1) = i - c - 1 from by omega] at h9
           exact h9)
        | (exfalso; rw [hb9] at hb22; cases hb22)
    · replace hb9 := bI_n0.mp hb9
      refine xw_iload_n (pc := 12) dX1_bitOf_12 1 rfl ?_
      refine xw_if_le (pc := 13) 38 dX1_bitOf_13 rfl (fun hb13 => ?_) (fun hb13 => ?_)
      · replace hb13 : (i - c) ≤ 0 := (nI_leI (a := (i - c)) (b := 0) (by (first | omega | (exfalso; rw [hb9] at hb22; cases hb22))) (by (first | omega | (exfalso; rw [hb9] at hb22; cases hb22)))).mp hb13
        refine xw_iload_n (pc := 38) dX1_bitOf_38 0 rfl ?_
        refine xw_iret (pc := 39) .int dX1_bitOf_39 rfl ?_ 
        rw [if_pos hb9, if_pos (show nI c = nI i from by rw [show c = i from by omega])] at h
        rw [Option.some.inj h]
        exact ⟨rfl, rfl⟩
      · replace hb13 : ¬ ((i - c) ≤ 0) := mt (nI_leI (a := (i - c)) (b := 0) (by (first | omega | (exfalso; rw [hb9] at hb22; cases hb22))) (by (first | omega | (exfalso; rw [hb9] at hb22; cases hb22)))).mpr hb13
        refine xw_iload_n (pc := 16) dX1_bitOf_16 1 rfl ?_
        refine xw_iload_n (pc := 17) dX1_bitOf_17 2 rfl ?_
        refine xw_iload_n (pc := 18) dX1_bitOf_18 0 rfl ?_
        refine xw_callV (pc := 19) (xr_S (as := [_, _]) ok_X1_has rfl (by decide) q1584 q1542 dX1_bitOf_19 rfl rfl (Nat.le_of_ble_eq_true rfl)) (hh) ?_
        refine xw_if_eq (pc := 22) 29 dX1_bitOf_22 rfl (fun hb22 => ?_) (fun hb22 => ?_)
        · replace hb22 := bI_0.mp hb22
          refine xw_iconst (v := nI 0) (pc := 29) dX1_bitOf_29 rfl ?_
          refine xn_isub (pc := 30) dX1_bitOf_30 (by (first | omega | (exfalso; rw [hb9] at hb22; cases hb22))) ?_
          refine xw_istore_n (l' := [(2, _), (3, _), (0, _), (1, _)]) (pc := 31) dX1_bitOf_31 rfl (by decide) rfl ?_
          refine xw_iinc (v := nI (k + 1)) (l' := [(3, _), (2, _), (0, _), (1, _)]) (pc := 32) dX1_bitOf_32 1 rfl (nI_add _ 1) (by decide) rfl ?_
          refine xw_goto (pc := 35) 4 dX1_bitOf_35 rfl ?_
          first
          | (have hP : P k = false := by first | exact hb9 | exact hb22
             rw [hP, if_neg (by decide)] at h
             have h9 := ih (k + 1) c r (by omega) hc h
             rw [show i - c - 0 = i - c from by omega]
             exact h9)
          | (have hP : P k = true := by first | exact hb22 | exact hb9
             rw [hP, if_pos rfl, if_neg (fun e => by have := (nI_eq (a := c) (b := i) (by omega) (by omega)).mp e; omega)] at h
             have h9 := ih (k + 1) (c + 1) r (by omega) (by omega) h
             rw [show i - (c + 1) = i - c - 1 from by omega] at h9
             exact h9)
          | (exfalso; rw [hb9] at hb22; cases hb22)
        · replace hb22 := bI_n0.mp hb22
          refine xw_iconst (v := nI 1) (pc := 25) dX1_bitOf_25 rfl ?_
          refine xw_goto (pc := 26) 30 dX1_bitOf_26 rfl ?_
          refine xn_isub (pc := 30) dX1_bitOf_30 (by (first | omega | (exfalso; rw [hb9] at hb22; cases hb22))) ?_
          refine xw_istore_n (l' := [(2, _), (3, _), (0, _), (1, _)]) (pc := 31) dX1_bitOf_31 rfl (by decide) rfl ?_
          refine xw_iinc (v := nI (k + 1)) (l' := [(3, _), (2, _), (0, _), (1, _)]) (pc := 32) dX1_bitOf_32 1 rfl (nI_add _ 1) (by decide) rfl ?_
          refine xw_goto (pc := 35) 4 dX1_bitOf_35 rfl ?_
          first
          | (have hP : P k = false := by first | exact hb9 | exact hb22
             rw [hP, if_neg (by decide)] at h
             have h9 := ih (k + 1) c r (by omega) hc h
             rw [show i - c - 0 = i - c from by omega]
             exact h9)
          | (have hP : P k = true := by first | exact hb22 | exact hb9
             rw [hP, if_pos rfl, if_neg (fun e => by have := (nI_eq (a := c) (b := i) (by omega) (by omega)).mp e; omega)] at h
             have h9 := ih (k + 1) (c + 1) r (by omega) (by omega) h
             rw [show i - (c + 1) = i - c - 1 from by omega] at h9
             exact h9)
          | (exfalso; rw [hb9] at hb22; cases hb22)
theorem SP_X1_bitOf {d : Nat} {g : xG} {P : Nat → Bool} {rr i r : Nat} (hr : rr ≤ 16) (hi : i < 1000) (h : rvK P (nI i) rr 0 0 = some r) : XM M_X1_bitOf (d + 1) [.int (nI (bN P rr)), .int (nI i)] g (xOne (some (.int (nI r))) g) := by
  refine xm_of (by decide +kernel) (Nat.le_of_ble_eq_true rfl) ?_
  show XW _ _ 0 [(0, _), (1, _)] [] _ _
  refine xw_iload_n (pc := 0) dX1_bitOf_0 1 rfl ?_
  refine xw_istore_n (l' := [(2, _), (0, _), (1, _)]) (pc := 1) dX1_bitOf_1 rfl (by decide) rfl ?_
  refine xw_iconst (v := nI 0) (pc := 2) dX1_bitOf_2 rfl ?_
  refine xw_istore_n (l' := [(3, _), (2, _), (0, _), (1, _)]) (pc := 3) dX1_bitOf_3 rfl (by decide) rfl ?_
  exact lp_X1_bitOf hr hi rr 0 0 r (by omega) (Nat.zero_le _) h

theorem anyK_ex {P : Nat → Bool} {n : Nat} (h : anyK P n = true) : ∃ t, t < n ∧ P t = true := by
  induction n with
  | zero => cases h
  | succ n ih =>
    rw [anyK, Bool.or_eq_true] at h
    rcases h with h | h
    · obtain ⟨t, h1, h2⟩ := ih h
      exact ⟨t, by omega, h2⟩
    · exact ⟨n, by omega, h⟩
theorem lp_X5_holdsAgain {d r : Nat} {g : xG} {x lk fa ka la p n rr ww k : Nat} {Z : xAd} {s : Nat → Int32} {day feats wo : Int32} {H : Nat → Bool} (hX : xCs g x lk fa ka la p Z s n rr ww k day feats wo H) (hr : r < rr) : ∀ (i v : Nat), r ≤ i → i < rr → v < 2 ^ 16 → (∀ jj, jj < 16 → (v.testBit jj = true ↔ ∃ t, i < t ∧ t < rr ∧ isPa s t jj = true ∧ H t = true)) → XW M_X5_holdsAgain (d + 13) 18 [(3, .int (nI i)), (2, .int (nI v)), (0, .ref lk), (1, .ref ((aR Z).getD r 0))] [] g (xOne (some (.int (bI (H r)))) g) := by
  intro i
  induction i with
  | zero =>
    intro v h1 h2 hv hB
    have er : r = 0 := by omega
    obtain ⟨i, hi0⟩ : ∃ i, i = 0 := ⟨_, rfl⟩
    rw [← hi0] at hB
    have r16 := hX.P.wf.r16
    have lr := hX.P.lr
    have txr := xRu_x (hX.P.ru hr)
    have nr : xi g (((aR Z).getD r 0)) 0 = nI r := (hX.P.ru hr).2.1
    have hti : i < rr → xtag g (((aR Z).getD i 0)) = 6 ∨ xtag g (((aR Z).getD i 0)) = 7 := fun hi => (hX.P.ru hi).1
    have hof : i < rr → rOf g (((aR Z).getD i 0)) = s (23 + 20 * i + 5) := fun hi => (hX.P.ru hi).2.2.2.2.2.2.2.2.2.2.1
    have hHi : ∀ i, i < rr → (H i = true ↔ cov s wo k day feats i = true ∧ ¬ ∃ t, i < t ∧ t < rr ∧ isPa s t i = true ∧ H t = true) := fun i hi => by
      have hH := hX.hH
      have e : H i = (cov s wo k day feats i && !anyK (fun t => isPa s (i + 1 + t) i && H (i + 1 + t)) (rr - i - 1)) := by
        rw [hH]
        exact hld_eq hi
      rw [e, Bool.and_eq_true, Bool.not_eq_true']
      refine and_congr_right (fun _ => ⟨fun h ⟨t, h1, h2, h3, h4⟩ => ?_, fun h => ?_⟩)
      · have := anyK_t (P := fun t => isPa s (i + 1 + t) i && H (i + 1 + t)) (x := t - i - 1) (n := rr - i - 1) (by omega) (by rw [show i + 1 + (t - i - 1) = t from by omega, h3, h4]; rfl)
        rw [h] at this
        cases this
      · cases hq : anyK (fun t => isPa s (i + 1 + t) i && H (i + 1 + t)) (rr - i - 1) with
        | false => rfl
        | true =>
          exfalso
          obtain ⟨t, h1, h2⟩ := anyK_ex hq
          rw [Bool.and_eq_true] at h2
          exact h ⟨i + 1 + t, by omega, by omega, h2.1, h2.2⟩
    refine xw_iload_n (pc := 18) dX5_holdsAgain_18 0 rfl ?_
    refine xw_aload_n (pc := 19) dX5_holdsAgain_19 3 rfl ?_
    refine xw_getNat (k := r) (pc := 20) fd_X5_68 dX5_holdsAgain_20 (by first | assumption | (simp [-List.getD_eq_getElem?_getD, xE_setI, xsz_setI, xsl_setI, xtag_setI, xown_setI, xlen_setI, xE_setR, xsz_setR, xsl_setR, xtag_setR, xown_setR, xlen_setR, xE_setW, xsz_setW, xsl_setW, xtag_setW, xown_setW, xlen_setW, xi_setR, xi_setW, xr_setI, xr_setW, xww_setI, xww_setR, xi_setI, xr_setR, xww_setW, xE_new, xsz_new, xsl_new, hX.tx, hX.xp, hX.P.tag, hX.P.f0, hX.P.f1, hX.P.f2, hX.lt, hX.l0, hX.l1, hX.l5, hX.l2, hX.l7, hX.fat, hX.kat, hX.lat, hX.kao, txr, nr, xsub]; done) | (simp [-List.getD_eq_getElem?_getD, xE_setI, xsz_setI, xsl_setI, xtag_setI, xown_setI, xlen_setI, xE_setR, xsz_setR, xsl_setR, xtag_setR, xown_setR, xlen_setR, xE_setW, xsz_setW, xsl_setW, xtag_setW, xown_setW, xlen_setW, xi_setR, xi_setW, xr_setI, xr_setW, xww_setI, xww_setR, xi_setI, xr_setR, xww_setW, xE_new, xsz_new, xsl_new, hX.tx, hX.xp, hX.P.tag, hX.P.f0, hX.P.f1, hX.P.f2, hX.lt, hX.l0, hX.l1, hX.l5, hX.l2, hX.l7, hX.fat, hX.kat, hX.lat, hX.kao, txr, nr] <;> rfl)) (by simp [-List.getD_eq_getElem?_getD, xE_setI, xsz_setI, xsl_setI, xtag_setI, xown_setI, xlen_setI, xE_setR, xsz_setR, xsl_setR, xtag_setR, xown_setR, xlen_setR, xE_setW, xsz_setW, xsl_setW, xtag_setW, xown_setW, xlen_setW, xi_setR, xi_setW, xr_setI, xr_setW, xww_setI, xww_setR, xi_setI, xr_setR, xww_setW, xE_new, xsz_new, xsl_new, hX.tx, hX.xp, hX.P.tag, hX.P.f0, hX.P.f1, hX.P.f2, hX.lt, hX.l0, hX.l1, hX.l5, hX.l2, hX.l7, hX.fat, hX.kat, hX.lat, hX.kao, txr, nr]) ?_
    refine xw_icmp_le (pc := 23) 87 dX5_holdsAgain_23 rfl (fun hb23 => ?_) (fun hb23 => ?_)
    rotate_left
    · exfalso
      replace hb23 : ¬ (0 ≤ r) := mt (nI_leI (a := 0) (b := r) (by omega) (by omega)).mpr hb23
      omega
    replace hb23 : 0 ≤ r := (nI_leI (a := 0) (b := r) (by omega) (by omega)).mp hb23
    refine xw_aload_n (pc := 87) dX5_holdsAgain_87 2 rfl ?_
    refine xw_aload_n (pc := 88) dX5_holdsAgain_88 3 rfl ?_
    refine xw_callV (pc := 89) (xr_V (as := [_]) ok_X5_covers rfl (by decide) q773 q774 q775 (by rw [hX.lt]; rfl) (by rw [hX.lt]; rfl) dX5_holdsAgain_89 rfl rfl (Nat.le_of_ble_eq_true rfl)) (SP_X5_cov (d := d) hX hr) ?_
    refine xw_if_eq (pc := 92) 110 dX5_holdsAgain_92 rfl (fun hb92 => ?_) (fun hb92 => ?_)
    · replace hb92 := bI_0.mp hb92
      refine xw_iconst (v := nI 0) (pc := 110) dX5_holdsAgain_110 rfl ?_
      refine xw_iret (pc := 111) .boolean dX5_holdsAgain_111 rfl ?_ 
      refine ⟨congrArg (fun x => Sum.inl (some (Value.int x))) ?_, rfl⟩
      have hB9 := hB r (by omega)
      have hH9 := hHi r hr
      have e0 : i = r := by omega
      rw [e0] at hB9
      cases hH : H r with
      | true =>
        have h9 := hH9.mp hH
        first
        | rfl
        | (exfalso; exact absurd (hb92.symm.trans h9.1) (by decide))
        | (exfalso; exact h9.2 (hB9.mp hb103))
      | false =>
        first
        | rfl
        | (exfalso
           have : H r = true := hH9.mpr ⟨hb92, fun q => by have := hB9.mpr q; rw [hb103] at this; cases this⟩
           rw [hH] at this
           cases this)
    · replace hb92 := bI_n0.mp hb92
      refine xw_iload_n (pc := 95) dX5_holdsAgain_95 1 rfl ?_
      refine xw_aload_n (pc := 96) dX5_holdsAgain_96 3 rfl ?_
      refine xw_getNat (k := r) (pc := 97) fd_X5_68 dX5_holdsAgain_97 (by first | assumption | (simp [-List.getD_eq_getElem?_getD, xE_setI, xsz_setI, xsl_setI, xtag_setI, xown_setI, xlen_setI, xE_setR, xsz_setR, xsl_setR, xtag_setR, xown_setR, xlen_setR, xE_setW, xsz_setW, xsl_setW, xtag_setW, xown_setW, xlen_setW, xi_setR, xi_setW, xr_setI, xr_setW, xww_setI, xww_setR, xi_setI, xr_setR, xww_setW, xE_new, xsz_new, xsl_new, hX.tx, hX.xp, hX.P.tag, hX.P.f0, hX.P.f1, hX.P.f2, hX.lt, hX.l0, hX.l1, hX.l5, hX.l2, hX.l7, hX.fat, hX.kat, hX.lat, hX.kao, txr, nr, xsub]; done) | (simp [-List.getD_eq_getElem?_getD, xE_setI, xsz_setI, xsl_setI, xtag_setI, xown_setI, xlen_setI, xE_setR, xsz_setR, xsl_setR, xtag_setR, xown_setR, xlen_setR, xE_setW, xsz_setW, xsl_setW, xtag_setW, xown_setW, xlen_setW, xi_setR, xi_setW, xr_setI, xr_setW, xww_setI, xww_setR, xi_setI, xr_setR, xww_setW, xE_new, xsz_new, xsl_new, hX.tx, hX.xp, hX.P.tag, hX.P.f0, hX.P.f1, hX.P.f2, hX.lt, hX.l0, hX.l1, hX.l5, hX.l2, hX.l7, hX.fat, hX.kat, hX.lat, hX.kao, txr, nr] <;> rfl)) (by simp [-List.getD_eq_getElem?_getD, xE_setI, xsz_setI, xsl_setI, xtag_setI, xown_setI, xlen_setI, xE_setR, xsz_setR, xsl_setR, xtag_setR, xown_setR, xlen_setR, xE_setW, xsz_setW, xsl_setW, xtag_setW, xown_setW, xlen_setW, xi_setR, xi_setW, xr_setI, xr_setW, xww_setI, xww_setR, xi_setI, xr_setR, xww_setW, xE_new, xsz_new, xsl_new, hX.tx, hX.xp, hX.P.tag, hX.P.f0, hX.P.f1, hX.P.f2, hX.lt, hX.l0, hX.l1, hX.l5, hX.l2, hX.l7, hX.fat, hX.kat, hX.lat, hX.kao, txr, nr]) ?_
      refine xw_callV (pc := 100) (xr_SN (as := [_, _]) ok_X1_has rfl (by decide) q1541 q1542 dX5_holdsAgain_100 rfl rfl (Nat.le_of_ble_eq_true rfl)) (SP_X1_has (d := d + 12) (v := v) (k := r) (by omega) (by omega)) ?_
      refine xw_if_ne (pc := 103) 110 dX5_holdsAgain_103 rfl (fun hb103 => ?_) (fun hb103 => ?_)
      · replace hb103 := bI_n0.mp hb103
        refine xw_iconst (v := nI 0) (pc := 110) dX5_holdsAgain_110 rfl ?_
        refine xw_iret (pc := 111) .boolean dX5_holdsAgain_111 rfl ?_ 
        refine ⟨congrArg (fun x => Sum.inl (some (Value.int x))) ?_, rfl⟩
        have hB9 := hB r (by omega)
        have hH9 := hHi r hr
        have e0 : i = r := by omega
        rw [e0] at hB9
        cases hH : H r with
        | true =>
          have h9 := hH9.mp hH
          first
          | rfl
          | (exfalso; exact absurd (hb92.symm.trans h9.1) (by decide))
          | (exfalso; exact h9.2 (hB9.mp hb103))
        | false =>
          first
          | rfl
          | (exfalso
             have : H r = true := hH9.mpr ⟨hb92, fun q => by have := hB9.mpr q; rw [hb103] at this; cases this⟩
             rw [hH] at this
             cases this)
      · replace hb103 := bI_0.mp hb103
        refine xw_iconst (v := nI 1) (pc := 106) dX5_holdsAgain_106 rfl ?_
        refine xw_goto (pc := 107) 111 dX5_holdsAgain_107 rfl ?_
        refine xw_iret (pc := 111) .boolean dX5_holdsAgain_111 rfl ?_ 
        refine ⟨congrArg (fun x => Sum.inl (some (Value.int x))) ?_, rfl⟩
        have hB9 := hB r (by omega)
        have hH9 := hHi r hr
        have e0 : i = r := by omega
        rw [e0] at hB9
        cases hH : H r with
        | true =>
          have h9 := hH9.mp hH
          first
          | rfl
          | (exfalso; exact absurd (hb92.symm.trans h9.1) (by decide))
          | (exfalso; exact h9.2 (hB9.mp hb103))
        | false =>
          first
          | rfl
          | (exfalso
             have : H r = true := hH9.mpr ⟨hb92, fun q => by have := hB9.mpr q; rw [hb103] at this; cases this⟩
             rw [hH] at this
             cases this)
  | succ i0 ih =>
    intro v h1 h2 hv hB
    obtain ⟨i, hi⟩ : ∃ i, i = i0 + 1 := ⟨_, rfl⟩
    rw [← hi] at h1 h2 hB ⊢
    have r16 := hX.P.wf.r16
    have lr := hX.P.lr
    have txr := xRu_x (hX.P.ru hr)
    have nr : xi g (((aR Z).getD r 0)) 0 = nI r := (hX.P.ru hr).2.1
    have hti : i < rr → xtag g (((aR Z).getD i 0)) = 6 ∨ xtag g (((aR Z).getD i 0)) = 7 := fun hi => (hX.P.ru hi).1
    have hof : i < rr → rOf g (((aR Z).getD i 0)) = s (23 + 20 * i + 5) := fun hi => (hX.P.ru hi).2.2.2.2.2.2.2.2.2.2.1
    have hHi : ∀ i, i < rr → (H i = true ↔ cov s wo k day feats i = true ∧ ¬ ∃ t, i < t ∧ t < rr ∧ isPa s t i = true ∧ H t = true) := fun i hi => by
      have hH := hX.hH
      have e : H i = (cov s wo k day feats i && !anyK (fun t => isPa s (i + 1 + t) i && H (i + 1 + t)) (rr - i - 1)) := by
        rw [hH]
        exact hld_eq hi
      rw [e, Bool.and_eq_true, Bool.not_eq_true']
      refine and_congr_right (fun _ => ⟨fun h ⟨t, h1, h2, h3, h4⟩ => ?_, fun h => ?_⟩)
      · have := anyK_t (P := fun t => isPa s (i + 1 + t) i && H (i + 1 + t)) (x := t - i - 1) (n := rr - i - 1) (by omega) (by rw [show i + 1 + (t - i - 1) = t from by omega, h3, h4]; rfl)
        rw [h] at this
        cases this
      · cases hq : anyK (fun t => isPa s (i + 1 + t) i && H (i + 1 + t)) (rr - i - 1) with
        | false => rfl
        | true =>
          exfalso
          obtain ⟨t, h1, h2⟩ := anyK_ex hq
          rw [Bool.and_eq_true] at h2
          exact h ⟨i + 1 + t, by omega, by omega, h2.1, h2.2⟩
    refine xw_iload_n (pc := 18) dX5_holdsAgain_18 0 rfl ?_
    refine xw_aload_n (pc := 19) dX5_holdsAgain_19 3 rfl ?_
    refine xw_getNat (k := r) (pc := 20) fd_X5_68 dX5_holdsAgain_20 (by first | assumption | (simp [-List.getD_eq_getElem?_getD, xE_setI, xsz_setI, xsl_setI, xtag_setI, xown_setI, xlen_setI, xE_setR, xsz_setR, xsl_setR, xtag_setR, xown_setR, xlen_setR, xE_setW, xsz_setW, xsl_setW, xtag_setW, xown_setW, xlen_setW, xi_setR, xi_setW, xr_setI, xr_setW, xww_setI, xww_setR, xi_setI, xr_setR, xww_setW, xE_new, xsz_new, xsl_new, hX.tx, hX.xp, hX.P.tag, hX.P.f0, hX.P.f1, hX.P.f2, hX.lt, hX.l0, hX.l1, hX.l5, hX.l2, hX.l7, hX.fat, hX.kat, hX.lat, hX.kao, txr, nr, xsub]; done) | (simp [-List.getD_eq_getElem?_getD, xE_setI, xsz_setI, xsl_setI, xtag_setI, xown_setI, xlen_setI, xE_setR, xsz_setR, xsl_setR, xtag_setR, xown_setR, xlen_setR, xE_setW, xsz_setW, xsl_setW, xtag_setW, xown_setW, xlen_setW, xi_setR, xi_setW, xr_setI, xr_setW, xww_setI, xww_setR, xi_setI, xr_setR, xww_setW, xE_new, xsz_new, xsl_new, hX.tx, hX.xp, hX.P.tag, hX.P.f0, hX.P.f1, hX.P.f2, hX.lt, hX.l0, hX.l1, hX.l5, hX.l2, hX.l7, hX.fat, hX.kat, hX.lat, hX.kao, txr, nr] <;> rfl)) (by simp [-List.getD_eq_getElem?_getD, xE_setI, xsz_setI, xsl_setI, xtag_setI, xown_setI, xlen_setI, xE_setR, xsz_setR, xsl_setR, xtag_setR, xown_setR, xlen_setR, xE_setW, xsz_setW, xsl_setW, xtag_setW, xown_setW, xlen_setW, xi_setR, xi_setW, xr_setI, xr_setW, xww_setI, xww_setR, xi_setI, xr_setR, xww_setW, xE_new, xsz_new, xsl_new, hX.tx, hX.xp, hX.P.tag, hX.P.f0, hX.P.f1, hX.P.f2, hX.lt, hX.l0, hX.l1, hX.l5, hX.l2, hX.l7, hX.fat, hX.kat, hX.lat, hX.kao, txr, nr]) ?_
    refine xw_icmp_le (pc := 23) 87 dX5_holdsAgain_23 rfl (fun hb23 => ?_) (fun hb23 => ?_)
    · replace hb23 : i ≤ r := (nI_leI (a := i) (b := r) (by omega) (by omega)).mp hb23
      refine xw_aload_n (pc := 87) dX5_holdsAgain_87 2 rfl ?_
      refine xw_aload_n (pc := 88) dX5_holdsAgain_88 3 rfl ?_
      refine xw_callV (pc := 89) (xr_V (as := [_]) ok_X5_covers rfl (by decide) q773 q774 q775 (by rw [hX.lt]; rfl) (by rw [hX.lt]; rfl) dX5_holdsAgain_89 rfl rfl (Nat.le_of_ble_eq_true rfl)) (SP_X5_cov (d := d) hX hr) ?_
      refine xw_if_eq (pc := 92) 110 dX5_holdsAgain_92 rfl (fun hb92 => ?_) (fun hb92 => ?_)
      · replace hb92 := bI_0.mp hb92
        refine xw_iconst (v := nI 0) (pc := 110) dX5_holdsAgain_110 rfl ?_
        refine xw_iret (pc := 111) .boolean dX5_holdsAgain_111 rfl ?_ 
        refine ⟨congrArg (fun x => Sum.inl (some (Value.int x))) ?_, rfl⟩
        have hB9 := hB r (by omega)
        have hH9 := hHi r hr
        have e0 : i = r := by omega
        rw [e0] at hB9
        cases hH : H r with
        | true =>
          have h9 := hH9.mp hH
          first
          | rfl
          | (exfalso; exact absurd (hb92.symm.trans h9.1) (by decide))
          | (exfalso; exact h9.2 (hB9.mp hb103))
        | false =>
          first
          | rfl
          | (exfalso
             have : H r = true := hH9.mpr ⟨hb92, fun q => by have := hB9.mpr q; rw [hb103] at this; cases this⟩
             rw [hH] at this
             cases this)
      · replace hb92 := bI_n0.mp hb92
        refine xw_iload_n (pc := 95) dX5_holdsAgain_95 1 rfl ?_
        refine xw_aload_n (pc := 96) dX5_holdsAgain_96 3 rfl ?_
        refine xw_getNat (k := r) (pc := 97) fd_X5_68 dX5_holdsAgain_97 (by first | assumption | (simp [-List.getD_eq_getElem?_getD, xE_setI, xsz_setI, xsl_setI, xtag_setI, xown_setI, xlen_setI, xE_setR, xsz_setR, xsl_setR, xtag_setR, xown_setR, xlen_setR, xE_setW, xsz_setW, xsl_setW, xtag_setW, xown_setW, xlen_setW, xi_setR, xi_setW, xr_setI, xr_setW, xww_setI, xww_setR, xi_setI, xr_setR, xww_setW, xE_new, xsz_new, xsl_new, hX.tx, hX.xp, hX.P.tag, hX.P.f0, hX.P.f1, hX.P.f2, hX.lt, hX.l0, hX.l1, hX.l5, hX.l2, hX.l7, hX.fat, hX.kat, hX.lat, hX.kao, txr, nr, xsub]; done) | (simp [-List.getD_eq_getElem?_getD, xE_setI, xsz_setI, xsl_setI, xtag_setI, xown_setI, xlen_setI, xE_setR, xsz_setR, xsl_setR, xtag_setR, xown_setR, xlen_setR, xE_setW, xsz_setW, xsl_setW, xtag_setW, xown_setW, xlen_setW, xi_setR, xi_setW, xr_setI, xr_setW, xww_setI, xww_setR, xi_setI, xr_setR, xww_setW, xE_new, xsz_new, xsl_new, hX.tx, hX.xp, hX.P.tag, hX.P.f0, hX.P.f1, hX.P.f2, hX.lt, hX.l0, hX.l1, hX.l5, hX.l2, hX.l7, hX.fat, hX.kat, hX.lat, hX.kao, txr, nr] <;> rfl)) (by simp [-List.getD_eq_getElem?_getD, xE_setI, xsz_setI, xsl_setI, xtag_setI, xown_setI, xlen_setI, xE_setR, xsz_setR, xsl_setR, xtag_setR, xown_setR, xlen_setR, xE_setW, xsz_setW, xsl_setW, xtag_setW, xown_setW, xlen_setW, xi_setR, xi_setW, xr_setI, xr_setW, xww_setI, xww_setR, xi_setI, xr_setR, xww_setW, xE_new, xsz_new, xsl_new, hX.tx, hX.xp, hX.P.tag, hX.P.f0, hX.P.f1, hX.P.f2, hX.lt, hX.l0, hX.l1, hX.l5, hX.l2, hX.l7, hX.fat, hX.kat, hX.lat, hX.kao, txr, nr]) ?_
        refine xw_callV (pc := 100) (xr_SN (as := [_, _]) ok_X1_has rfl (by decide) q1541 q1542 dX5_holdsAgain_100 rfl rfl (Nat.le_of_ble_eq_true rfl)) (SP_X1_has (d := d + 12) (v := v) (k := r) (by omega) (by omega)) ?_
        refine xw_if_ne (pc := 103) 110 dX5_holdsAgain_103 rfl (fun hb103 => ?_) (fun hb103 => ?_)
        · replace hb103 := bI_n0.mp hb103
          refine xw_iconst (v := nI 0) (pc := 110) dX5_holdsAgain_110 rfl ?_
          refine xw_iret (pc := 111) .boolean dX5_holdsAgain_111 rfl ?_ 
          refine ⟨congrArg (fun x => Sum.inl (some (Value.int x))) ?_, rfl⟩
          have hB9 := hB r (by omega)
          have hH9 := hHi r hr
          have e0 : i = r := by omega
          rw [e0] at hB9
          cases hH : H r with
          | true =>
            have h9 := hH9.mp hH
            first
            | rfl
            | (exfalso; exact absurd (hb92.symm.trans h9.1) (by decide))
            | (exfalso; exact h9.2 (hB9.mp hb103))
          | false =>
            first
            | rfl
            | (exfalso
               have : H r = true := hH9.mpr ⟨hb92, fun q => by have := hB9.mpr q; rw [hb103] at this; cases this⟩
               rw [hH] at this
               cases this)
        · replace hb103 := bI_0.mp hb103
          refine xw_iconst (v := nI 1) (pc := 106) dX5_holdsAgain_106 rfl ?_
          refine xw_goto (pc := 107) 111 dX5_holdsAgain_107 rfl ?_
          refine xw_iret (pc := 111) .boolean dX5_holdsAgain_111 rfl ?_ 
          refine ⟨congrArg (fun x => Sum.inl (some (Value.int x))) ?_, rfl⟩
          have hB9 := hB r (by omega)
          have hH9 := hHi r hr
          have e0 : i = r := by omega
          rw [e0] at hB9
          cases hH : H r with
          | true =>
            have h9 := hH9.mp hH
            first
            | rfl
            | (exfalso; exact absurd (hb92.symm.trans h9.1) (by decide))
            | (exfalso; exact h9.2 (hB9.mp hb103))
          | false =>
            first
            | rfl
            | (exfalso
               have : H r = true := hH9.mpr ⟨hb92, fun q => by have := hB9.mpr q; rw [hb103] at this; cases this⟩
               rw [hH] at this
               cases this)
    · replace hb23 : ¬ (i ≤ r) := mt (nI_leI (a := i) (b := r) (by omega) (by omega)).mpr hb23
      refine xw_aload_n (pc := 26) dX5_holdsAgain_26 2 rfl ?_
      refine xw_getS (b := x) (pc := 27) fd_X5_3 dX5_holdsAgain_27 (by first | assumption | (simp [-List.getD_eq_getElem?_getD, xE_setI, xsz_setI, xsl_setI, xtag_setI, xown_setI, xlen_setI, xE_setR, xsz_setR, xsl_setR, xtag_setR, xown_setR, xlen_setR, xE_setW, xsz_setW, xsl_setW, xtag_setW, xown_setW, xlen_setW, xi_setR, xi_setW, xr_setI, xr_setW, xww_setI, xww_setR, xi_setI, xr_setR, xww_setW, xE_new, xsz_new, xsl_new, hX.tx, hX.xp, hX.P.tag, hX.P.f0, hX.P.f1, hX.P.f2, hX.lt, hX.l0, hX.l1, hX.l5, hX.l2, hX.l7, hX.fat, hX.kat, hX.lat, hX.kao, txr, nr, xsub]; done) | (simp [-List.getD_eq_getElem?_getD, xE_setI, xsz_setI, xsl_setI, xtag_setI, xown_setI, xlen_setI, xE_setR, xsz_setR, xsl_setR, xtag_setR, xown_setR, xlen_setR, xE_setW, xsz_setW, xsl_setW, xtag_setW, xown_setW, xlen_setW, xi_setR, xi_setW, xr_setI, xr_setW, xww_setI, xww_setR, xi_setI, xr_setR, xww_setW, xE_new, xsz_new, xsl_new, hX.tx, hX.xp, hX.P.tag, hX.P.f0, hX.P.f1, hX.P.f2, hX.lt, hX.l0, hX.l1, hX.l5, hX.l2, hX.l7, hX.fat, hX.kat, hX.lat, hX.kao, txr, nr] <;> rfl)) (by simp [-List.getD_eq_getElem?_getD, xE_setI, xsz_setI, xsl_setI, xtag_setI, xown_setI, xlen_setI, xE_setR, xsz_setR, xsl_setR, xtag_setR, xown_setR, xlen_setR, xE_setW, xsz_setW, xsl_setW, xtag_setW, xown_setW, xlen_setW, xi_setR, xi_setW, xr_setI, xr_setW, xww_setI, xww_setR, xi_setI, xr_setR, xww_setW, xE_new, xsz_new, xsl_new, hX.tx, hX.xp, hX.P.tag, hX.P.f0, hX.P.f1, hX.P.f2, hX.lt, hX.l0, hX.l1, hX.l5, hX.l2, hX.l7, hX.fat, hX.kat, hX.lat, hX.kao, txr, nr]) ?_
      refine xw_getS (b := p) (pc := 30) fd_X5_25 dX5_holdsAgain_30 (by first | assumption | (simp [-List.getD_eq_getElem?_getD, xE_setI, xsz_setI, xsl_setI, xtag_setI, xown_setI, xlen_setI, xE_setR, xsz_setR, xsl_setR, xtag_setR, xown_setR, xlen_setR, xE_setW, xsz_setW, xsl_setW, xtag_setW, xown_setW, xlen_setW, xi_setR, xi_setW, xr_setI, xr_setW, xww_setI, xww_setR, xi_setI, xr_setR, xww_setW, xE_new, xsz_new, xsl_new, hX.tx, hX.xp, hX.P.tag, hX.P.f0, hX.P.f1, hX.P.f2, hX.lt, hX.l0, hX.l1, hX.l5, hX.l2, hX.l7, hX.fat, hX.kat, hX.lat, hX.kao, txr, nr, xsub]; done) | (simp [-List.getD_eq_getElem?_getD, xE_setI, xsz_setI, xsl_setI, xtag_setI, xown_setI, xlen_setI, xE_setR, xsz_setR, xsl_setR, xtag_setR, xown_setR, xlen_setR, xE_setW, xsz_setW, xsl_setW, xtag_setW, xown_setW, xlen_setW, xi_setR, xi_setW, xr_setI, xr_setW, xww_setI, xww_setR, xi_setI, xr_setR, xww_setW, xE_new, xsz_new, xsl_new, hX.tx, hX.xp, hX.P.tag, hX.P.f0, hX.P.f1, hX.P.f2, hX.lt, hX.l0, hX.l1, hX.l5, hX.l2, hX.l7, hX.fat, hX.kat, hX.lat, hX.kao, txr, nr] <;> rfl)) (by simp [-List.getD_eq_getElem?_getD, xE_setI, xsz_setI, xsl_setI, xtag_setI, xown_setI, xlen_setI, xE_setR, xsz_setR, xsl_setR, xtag_setR, xown_setR, xlen_setR, xE_setW, xsz_setW, xsl_setW, xtag_setW, xown_setW, xlen_setW, xi_setR, xi_setW, xr_setI, xr_setW, xww_setI, xww_setR, xi_setI, xr_setR, xww_setW, xE_new, xsz_new, xsl_new, hX.tx, hX.xp, hX.P.tag, hX.P.f0, hX.P.f1, hX.P.f2, hX.lt, hX.l0, hX.l1, hX.l5, hX.l2, hX.l7, hX.fat, hX.kat, hX.lat, hX.kao, txr, nr]) ?_
      refine xw_getS (b := (aL Z 2)) (pc := 33) fd_X5_92 dX5_holdsAgain_33 (by first | assumption | (simp [-List.getD_eq_getElem?_getD, xE_setI, xsz_setI, xsl_setI, xtag_setI, xown_setI, xlen_setI, xE_setR, xsz_setR, xsl_setR, xtag_setR, xown_setR, xlen_setR, xE_setW, xsz_setW, xsl_setW, xtag_setW, xown_setW, xlen_setW, xi_setR, xi_setW, xr_setI, xr_setW, xww_setI, xww_setR, xi_setI, xr_setR, xww_setW, xE_new, xsz_new, xsl_new, hX.tx, hX.xp, hX.P.tag, hX.P.f0, hX.P.f1, hX.P.f2, hX.lt, hX.l0, hX.l1, hX.l5, hX.l2, hX.l7, hX.fat, hX.kat, hX.lat, hX.kao, txr, nr, xsub]; done) | (simp [-List.getD_eq_getElem?_getD, xE_setI, xsz_setI, xsl_setI, xtag_setI, xown_setI, xlen_setI, xE_setR, xsz_setR, xsl_setR, xtag_setR, xown_setR, xlen_setR, xE_setW, xsz_setW, xsl_setW, xtag_setW, xown_setW, xlen_setW, xi_setR, xi_setW, xr_setI, xr_setW, xww_setI, xww_setR, xi_setI, xr_setR, xww_setW, xE_new, xsz_new, xsl_new, hX.tx, hX.xp, hX.P.tag, hX.P.f0, hX.P.f1, hX.P.f2, hX.lt, hX.l0, hX.l1, hX.l5, hX.l2, hX.l7, hX.fat, hX.kat, hX.lat, hX.kao, txr, nr] <;> rfl)) (by simp [-List.getD_eq_getElem?_getD, xE_setI, xsz_setI, xsl_setI, xtag_setI, xown_setI, xlen_setI, xE_setR, xsz_setR, xsl_setR, xtag_setR, xown_setR, xlen_setR, xE_setW, xsz_setW, xsl_setW, xtag_setW, xown_setW, xlen_setW, xi_setR, xi_setW, xr_setI, xr_setW, xww_setI, xww_setR, xi_setI, xr_setR, xww_setW, xE_new, xsz_new, xsl_new, hX.tx, hX.xp, hX.P.tag, hX.P.f0, hX.P.f1, hX.P.f2, hX.lt, hX.l0, hX.l1, hX.l5, hX.l2, hX.l7, hX.fat, hX.kat, hX.lat, hX.kao, txr, nr]) ?_
      refine xw_iload_n (pc := 36) dX5_holdsAgain_36 0 rfl ?_
      refine xw_callV (pc := 37) (xr_V (as := [_]) ok_J2_get rfl (by decide) q740 q706 q707 (by rw [hX.P.l1.1]; rfl) (by rw [hX.P.l1.1]; rfl) dX5_holdsAgain_37 rfl rfl (Nat.le_of_ble_eq_true rfl)) (SP_J2_get hX.P.l1 i (by omega)) ?_
      refine xw_chkR (pc := 40) dX5_holdsAgain_40 q755 (by exact hti h2) ?_
      refine xw_astore (l' := [(4, _), (3, _), (2, _), (0, _), (1, _)]) (pc := 43) dX5_holdsAgain_43 (by decide) rfl ?_
      refine xw_aload (pc := 45) dX5_holdsAgain_45 0 rfl ?_
      refine xw_rof (pc := 47) (hti h2) dX5_holdsAgain_47 q838 (Nat.le_of_ble_eq_true rfl) ?_
      rw [hof h2]
      refine xw_iconst (v := -1) (pc := 50) dX5_holdsAgain_50 (by decide +kernel) ?_
      refine xw_icmp_eq (pc := 51) 81 dX5_holdsAgain_51 rfl (fun hb51 => ?_) (fun hb51 => ?_)
      · refine xw_iinc (v := nI (i - 1)) (l' := [(3, _), (4, _), (2, _), (0, _), (1, _)]) (pc := 81) dX5_holdsAgain_81 1 rfl (by exact nI_dec1 (by omega)) (by decide) rfl ?_
        refine xw_goto (pc := 84) 18 dX5_holdsAgain_84 rfl ?_
        refine xw_pick (pc := 18) (l' := [(3, _), (2, _), (0, _), (1, _)]) [0, 2, 3, 4] rfl ?_
        rw [show i - 1 = i0 from by omega]
        have hsplit : ∀ jj, (∃ t, i0 < t ∧ t < rr ∧ isPa s t jj = true ∧ H t = true) ↔ ((isPa s i jj = true ∧ H i = true) ∨ ∃ t, i < t ∧ t < rr ∧ isPa s t jj = true ∧ H t = true) := fun jj => by
          constructor
          · rintro ⟨t, q1, q2, q3, q4⟩
            by_cases e : t = i
            · rw [e] at q3 q4; exact Or.inl ⟨q3, q4⟩
            · exact Or.inr ⟨t, by omega, q2, q3, q4⟩
          · rintro (⟨q3, q4⟩ | ⟨t, q1, q2, q3, q4⟩)
            · exact ⟨i, by omega, h2, q3, q4⟩
            · exact ⟨t, by omega, q2, q3, q4⟩
        have hBi := hB i (by omega)
        first
        | (have hno : ¬ H i = true := fun q => by
             have h9 := (hHi i h2).mp q
             first
             | (have e := h9.1; rw [hb68] at e; cases e)
             | exact h9.2 (hBi.mp hb59)
           exact ih v (by omega) (by omega) hv (fun jj hj => by rw [hB jj hj, hsplit jj]; exact ⟨fun q => Or.inr q, fun q => q.resolve_left (fun z => hno z.2)⟩))
        | (have hpn : ∀ jj, jj < 16 → ¬ isPa s i jj = true := fun jj hj q => by
             have e : s (23 + 20 * i + 5) = nI jj := of_decide_eq_true q
             rw [hb51] at e
             have := m1lt (n := jj) (by omega)
             rw [← e] at this
             exact this neg1lt
           exact ih v (by omega) (by omega) hv (fun jj hj => by rw [hB jj hj, hsplit jj]; exact ⟨fun q => Or.inr q, fun q => q.resolve_left (fun z => hpn jj hj z.1)⟩))
        | (have hyes : H i = true := (hHi i h2).mpr ⟨hb68, fun q => by have := hBi.mpr q; rw [hb59] at this; cases this⟩
           have hp16 : aN s (23 + 20 * i + 5) < 16 := by have := hpi.2; omega
           refine ih (v ||| 2 ^ aN s (23 + 20 * i + 5)) (by omega) (by omega) (Nat.or_lt_two_pow hv (Nat.pow_lt_pow_right (by decide) hp16)) (fun jj hj => ?_)
           rw [Nat.testBit_or, Nat.testBit_two_pow, Bool.or_eq_true, hB jj hj, hsplit jj, decide_eq_true_iff]
           have hpj : isPa s i jj = true ↔ aN s (23 + 20 * i + 5) = jj := by
             unfold isPa
             rw [decide_eq_true_iff, hpi.1, nI_eq (by omega) (by omega)]
           rw [hpj]
           constructor
           · rintro (q | q)
             · exact Or.inr q
             · exact Or.inl ⟨q, hyes⟩
           · rintro (q | q)
             · exact Or.inr q.1
             · exact Or.inl q)
      · have hpi : isN s (23 + 20 * i + 5) i := by
          rcases (hX.P.wf.ru h2).2.2.2.2.2.2.2.1 with q | q
          · exact absurd q.1 hb51
          · exact q.1
        refine xw_iload_n (pc := 54) dX5_holdsAgain_54 2 rfl ?_
        refine xw_iload_n (pc := 55) dX5_holdsAgain_55 1 rfl ?_
        refine xw_callV (pc := 56) (xr_SN (as := [_, _]) ok_X1_has rfl (by decide) q1541 q1542 dX5_holdsAgain_56 rfl rfl (Nat.le_of_ble_eq_true rfl)) (SP_X1_has (d := d + 12) (v := v) (k := i) (by omega) (by omega)) ?_
        refine xw_if_ne (pc := 59) 81 dX5_holdsAgain_59 rfl (fun hb59 => ?_) (fun hb59 => ?_)
        · replace hb59 := bI_n0.mp hb59
          refine xw_iinc (v := nI (i - 1)) (l' := [(3, _), (4, _), (2, _), (0, _), (1, _)]) (pc := 81) dX5_holdsAgain_81 1 rfl (by exact nI_dec1 (by omega)) (by decide) rfl ?_
          refine xw_goto (pc := 84) 18 dX5_holdsAgain_84 rfl ?_
          refine xw_pick (pc := 18) (l' := [(3, _), (2, _), (0, _), (1, _)]) [0, 2, 3, 4] rfl ?_
          rw [show i - 1 = i0 from by omega]
          have hsplit : ∀ jj, (∃ t, i0 < t ∧ t < rr ∧ isPa s t jj = true ∧ H t = true) ↔ ((isPa s i jj = true ∧ H i = true) ∨ ∃ t, i < t ∧ t < rr ∧ isPa s t jj = true ∧ H t = true) := fun jj => by
            constructor
            · rintro ⟨t, q1, q2, q3, q4⟩
              by_cases e : t = i
              · rw [e] at q3 q4; exact Or.inl ⟨q3, q4⟩
              · exact Or.inr ⟨t, by omega, q2, q3, q4⟩
            · rintro (⟨q3, q4⟩ | ⟨t, q1, q2, q3, q4⟩)
              · exact ⟨i, by omega, h2, q3, q4⟩
              · exact ⟨t, by omega, q2, q3, q4⟩
          have hBi := hB i (by omega)
          first
          | (have hno : ¬ H i = true := fun q => by
               have h9 := (hHi i h2).mp q
               first
               | (have e := h9.1; rw [hb68] at e; cases e)
               | exact h9.2 (hBi.mp hb59)
             exact ih v (by omega) (by omega) hv (fun jj hj => by rw [hB jj hj, hsplit jj]; exact ⟨fun q => Or.inr q, fun q => q.resolve_left (fun z => hno z.2)⟩))
          | (have hpn : ∀ jj, jj < 16 → ¬ isPa s i jj = true := fun jj hj q => by
               have e : s (23 + 20 * i + 5) = nI jj := of_decide_eq_true q
               rw [hb51] at e
               have := m1lt (n := jj) (by omega)
               rw [← e] at this
               exact this neg1lt
             exact ih v (by omega) (by omega) hv (fun jj hj => by rw [hB jj hj, hsplit jj]; exact ⟨fun q => Or.inr q, fun q => q.resolve_left (fun z => hpn jj hj z.1)⟩))
          | (have hyes : H i = true := (hHi i h2).mpr ⟨hb68, fun q => by have := hBi.mpr q; rw [hb59] at this; cases this⟩
             have hp16 : aN s (23 + 20 * i + 5) < 16 := by have := hpi.2; omega
             refine ih (v ||| 2 ^ aN s (23 + 20 * i + 5)) (by omega) (by omega) (Nat.or_lt_two_pow hv (Nat.pow_lt_pow_right (by decide) hp16)) (fun jj hj => ?_)
             rw [Nat.testBit_or, Nat.testBit_two_pow, Bool.or_eq_true, hB jj hj, hsplit jj, decide_eq_true_iff]
             have hpj : isPa s i jj = true ↔ aN s (23 + 20 * i + 5) = jj := by
               unfold isPa
               rw [decide_eq_true_iff, hpi.1, nI_eq (by omega) (by omega)]
             rw [hpj]
             constructor
             · rintro (q | q)
               · exact Or.inr q
               · exact Or.inl ⟨q, hyes⟩
             · rintro (q | q)
               · exact Or.inr q.1
               · exact Or.inl q)
        · replace hb59 := bI_0.mp hb59
          refine xw_aload_n (pc := 62) dX5_holdsAgain_62 3 rfl ?_
          refine xw_aload (pc := 63) dX5_holdsAgain_63 0 rfl ?_
          refine xw_callV (pc := 65) (xr_V (as := [_]) ok_X5_covers rfl (by decide) q773 q774 q775 (by rw [hX.lt]; rfl) (by rw [hX.lt]; rfl) dX5_holdsAgain_65 rfl rfl (Nat.le_of_ble_eq_true rfl)) (SP_X5_cov (d := d) hX h2) ?_
          refine xw_if_eq (pc := 68) 81 dX5_holdsAgain_68 rfl (fun hb68 => ?_) (fun hb68 => ?_)
          · replace hb68 := bI_0.mp hb68
            refine xw_iinc (v := nI (i - 1)) (l' := [(3, _), (4, _), (2, _), (0, _), (1, _)]) (pc := 81) dX5_holdsAgain_81 1 rfl (by exact nI_dec1 (by omega)) (by decide) rfl ?_
            refine xw_goto (pc := 84) 18 dX5_holdsAgain_84 rfl ?_
            refine xw_pick (pc := 18) (l' := [(3, _), (2, _), (0, _), (1, _)]) [0, 2, 3, 4] rfl ?_
            rw [show i - 1 = i0 from by omega]
            have hsplit : ∀ jj, (∃ t, i0 < t ∧ t < rr ∧ isPa s t jj = true ∧ H t = true) ↔ ((isPa s i jj = true ∧ H i = true) ∨ ∃ t, i < t ∧ t < rr ∧ isPa s t jj = true ∧ H t = true) := fun jj => by
              constructor
              · rintro ⟨t, q1, q2, q3, q4⟩
                by_cases e : t = i
                · rw [e] at q3 q4; exact Or.inl ⟨q3, q4⟩
                · exact Or.inr ⟨t, by omega, q2, q3, q4⟩
              · rintro (⟨q3, q4⟩ | ⟨t, q1, q2, q3, q4⟩)
                · exact ⟨i, by omega, h2, q3, q4⟩
                · exact ⟨t, by omega, q2, q3, q4⟩
            have hBi := hB i (by omega)
            first
            | (have hno : ¬ H i = true := fun q => by
                 have h9 := (hHi i h2).mp q
                 first
                 | (have e := h9.1; rw [hb68] at e; cases e)
                 | exact h9.2 (hBi.mp hb59)
               exact ih v (by omega) (by omega) hv (fun jj hj => by rw [hB jj hj, hsplit jj]; exact ⟨fun q => Or.inr q, fun q => q.resolve_left (fun z => hno z.2)⟩))
            | (have hpn : ∀ jj, jj < 16 → ¬ isPa s i jj = true := fun jj hj q => by
                 have e : s (23 + 20 * i + 5) = nI jj := of_decide_eq_true q
                 rw [hb51] at e
                 have := m1lt (n := jj) (by omega)
                 rw [← e] at this
                 exact this neg1lt
               exact ih v (by omega) (by omega) hv (fun jj hj => by rw [hB jj hj, hsplit jj]; exact ⟨fun q => Or.inr q, fun q => q.resolve_left (fun z => hpn jj hj z.1)⟩))
            | (have hyes : H i = true := (hHi i h2).mpr ⟨hb68, fun q => by have := hBi.mpr q; rw [hb59] at this; cases this⟩
               have hp16 : aN s (23 + 20 * i + 5) < 16 := by have := hpi.2; omega
               refine ih (v ||| 2 ^ aN s (23 + 20 * i + 5)) (by omega) (by omega) (Nat.or_lt_two_pow hv (Nat.pow_lt_pow_right (by decide) hp16)) (fun jj hj => ?_)
               rw [Nat.testBit_or, Nat.testBit_two_pow, Bool.or_eq_true, hB jj hj, hsplit jj, decide_eq_true_iff]
               have hpj : isPa s i jj = true ↔ aN s (23 + 20 * i + 5) = jj := by
                 unfold isPa
                 rw [decide_eq_true_iff, hpi.1, nI_eq (by omega) (by omega)]
               rw [hpj]
               constructor
               · rintro (q | q)
                 · exact Or.inr q
                 · exact Or.inl ⟨q, hyes⟩
               · rintro (q | q)
                 · exact Or.inr q.1
                 · exact Or.inl q)
          · replace hb68 := bI_n0.mp hb68
            refine xw_iload_n (pc := 71) dX5_holdsAgain_71 2 rfl ?_
            refine xw_iconst (v := nI 1) (pc := 72) dX5_holdsAgain_72 rfl ?_
            refine xw_aload (pc := 73) dX5_holdsAgain_73 0 rfl ?_
            refine xw_rof (pc := 75) (hti h2) dX5_holdsAgain_75 q838 (by simp only [List.map, List.sum_cons, List.sum_nil, Value.category]; omega) ?_
            rw [hof h2, hpi.1]
            refine xw_ishl (pc := 78) dX5_holdsAgain_78 ?_
            refine xw_ior (pc := 79) dX5_holdsAgain_79 ?_
            rw [nI_shl (hD32 _ (by have := hpi.2; omega)), Nat.one_mul, nI_lor]
            refine xw_istore_n (l' := [(2, _), (4, _), (3, _), (0, _), (1, _)]) (pc := 80) dX5_holdsAgain_80 rfl (by decide) rfl ?_
            refine xw_iinc (v := nI (i - 1)) (l' := [(3, _), (2, _), (4, _), (0, _), (1, _)]) (pc := 81) dX5_holdsAgain_81 2 rfl (by exact nI_dec1 (by omega)) (by decide) rfl ?_
            refine xw_goto (pc := 84) 18 dX5_holdsAgain_84 rfl ?_
            refine xw_pick (pc := 18) (l' := [(3, _), (2, _), (0, _), (1, _)]) [0, 1, 3, 4] rfl ?_
            rw [show i - 1 = i0 from by omega]
            have hsplit : ∀ jj, (∃ t, i0 < t ∧ t < rr ∧ isPa s t jj = true ∧ H t = true) ↔ ((isPa s i jj = true ∧ H i = true) ∨ ∃ t, i < t ∧ t < rr ∧ isPa s t jj = true ∧ H t = true) := fun jj => by
              constructor
              · rintro ⟨t, q1, q2, q3, q4⟩
                by_cases e : t = i
                · rw [e] at q3 q4; exact Or.inl ⟨q3, q4⟩
                · exact Or.inr ⟨t, by omega, q2, q3, q4⟩
              · rintro (⟨q3, q4⟩ | ⟨t, q1, q2, q3, q4⟩)
                · exact ⟨i, by omega, h2, q3, q4⟩
                · exact ⟨t, by omega, q2, q3, q4⟩
            have hBi := hB i (by omega)
            first
            | (have hno : ¬ H i = true := fun q => by
                 have h9 := (hHi i h2).mp q
                 first
                 | (have e := h9.1; rw [hb68] at e; cases e)
                 | exact h9.2 (hBi.mp hb59)
               exact ih v (by omega) (by omega) hv (fun jj hj => by rw [hB jj hj, hsplit jj]; exact ⟨fun q => Or.inr q, fun q => q.resolve_left (fun z => hno z.2)⟩))
            | (have hpn : ∀ jj, jj < 16 → ¬ isPa s i jj = true := fun jj hj q => by
                 have e : s (23 + 20 * i + 5) = nI jj := of_decide_eq_true q
                 rw [hb51] at e
                 have := m1lt (n := jj) (by omega)
                 rw [← e] at this
                 exact this neg1lt
               exact ih v (by omega) (by omega) hv (fun jj hj => by rw [hB jj hj, hsplit jj]; exact ⟨fun q => Or.inr q, fun q => q.resolve_left (fun z => hpn jj hj z.1)⟩))
            | (have hyes : H i = true := (hHi i h2).mpr ⟨hb68, fun q => by have := hBi.mpr q; rw [hb59] at this; cases this⟩
               have hp16 : aN s (23 + 20 * i + 5) < 16 := by have := hpi.2; omega
               refine ih (v ||| 2 ^ aN s (23 + 20 * i + 5)) (by omega) (by omega) (Nat.or_lt_two_pow hv (Nat.pow_lt_pow_right (by decide) hp16)) (fun jj hj => ?_)
               rw [Nat.testBit_or, Nat.testBit_two_pow, Bool.or_eq_true, hB jj hj, hsplit jj, decide_eq_true_iff]
               have hpj : isPa s i jj = true ↔ aN s (23 + 20 * i + 5) = jj := by
                 unfold isPa
                 rw [decide_eq_true_iff, hpi.1, nI_eq (by omega) (by omega)]
               rw [hpj]
               constructor
               · rintro (q | q)
                 · exact Or.inr q
                 · exact Or.inl ⟨q, hyes⟩
               · rintro (q | q)
                 · exact Or.inr q.1
                 · exact Or.inl q)
theorem SP_X5_holdsAgain {d r : Nat} {g : xG} {x lk fa ka la p n rr ww k : Nat} {Z : xAd} {s : Nat → Int32} {day feats wo : Int32} {H : Nat → Bool} (hX : xCs g x lk fa ka la p Z s n rr ww k day feats wo H) (hr : r < rr) : XM M_X5_holdsAgain (d + 13) [.ref lk, .ref ((aR Z).getD r 0)] g (xOne (some (.int (bI (H r)))) g) := by
  have r16 := hX.P.wf.r16
  have lr := hX.P.lr
  refine xm_of (by decide +kernel) (Nat.le_of_ble_eq_true rfl) ?_
  show XW _ _ 0 [(0, _), (1, _)] [] _ _
  refine xw_iconst (v := nI 0) (pc := 0) dX5_holdsAgain_0 rfl ?_
  refine xw_istore_n (l' := [(2, _), (0, _), (1, _)]) (pc := 1) dX5_holdsAgain_1 rfl (by decide) rfl ?_
  refine xw_aload_n (pc := 2) dX5_holdsAgain_2 1 rfl ?_
  refine xw_getS (b := x) (pc := 3) fd_X5_3 dX5_holdsAgain_3 (by first | assumption | (simp [-List.getD_eq_getElem?_getD, xE_setI, xsz_setI, xsl_setI, xtag_setI, xown_setI, xlen_setI, xE_setR, xsz_setR, xsl_setR, xtag_setR, xown_setR, xlen_setR, xE_setW, xsz_setW, xsl_setW, xtag_setW, xown_setW, xlen_setW, xi_setR, xi_setW, xr_setI, xr_setW, xww_setI, xww_setR, xi_setI, xr_setR, xww_setW, xE_new, xsz_new, xsl_new, hX.tx, hX.xp, hX.P.tag, hX.P.f0, hX.P.f1, hX.P.f2, hX.lt, hX.l0, hX.l1, hX.l5, hX.l2, hX.l7, hX.fat, hX.kat, hX.lat, hX.kao, xsub]; done) | (simp [-List.getD_eq_getElem?_getD, xE_setI, xsz_setI, xsl_setI, xtag_setI, xown_setI, xlen_setI, xE_setR, xsz_setR, xsl_setR, xtag_setR, xown_setR, xlen_setR, xE_setW, xsz_setW, xsl_setW, xtag_setW, xown_setW, xlen_setW, xi_setR, xi_setW, xr_setI, xr_setW, xww_setI, xww_setR, xi_setI, xr_setR, xww_setW, xE_new, xsz_new, xsl_new, hX.tx, hX.xp, hX.P.tag, hX.P.f0, hX.P.f1, hX.P.f2, hX.lt, hX.l0, hX.l1, hX.l5, hX.l2, hX.l7, hX.fat, hX.kat, hX.lat, hX.kao] <;> rfl)) (by simp [-List.getD_eq_getElem?_getD, xE_setI, xsz_setI, xsl_setI, xtag_setI, xown_setI, xlen_setI, xE_setR, xsz_setR, xsl_setR, xtag_setR, xown_setR, xlen_setR, xE_setW, xsz_setW, xsl_setW, xtag_setW, xown_setW, xlen_setW, xi_setR, xi_setW, xr_setI, xr_setW, xww_setI, xww_setR, xi_setI, xr_setR, xww_setW, xE_new, xsz_new, xsl_new, hX.tx, hX.xp, hX.P.tag, hX.P.f0, hX.P.f1, hX.P.f2, hX.lt, hX.l0, hX.l1, hX.l5, hX.l2, hX.l7, hX.fat, hX.kat, hX.lat, hX.kao]) ?_
  refine xw_getS (b := p) (pc := 6) fd_X5_25 dX5_holdsAgain_6 (by first | assumption | (simp [-List.getD_eq_getElem?_getD, xE_setI, xsz_setI, xsl_setI, xtag_setI, xown_setI, xlen_setI, xE_setR, xsz_setR, xsl_setR, xtag_setR, xown_setR, xlen_setR, xE_setW, xsz_setW, xsl_setW, xtag_setW, xown_setW, xlen_setW, xi_setR, xi_setW, xr_setI, xr_setW, xww_setI, xww_setR, xi_setI, xr_setR, xww_setW, xE_new, xsz_new, xsl_new, hX.tx, hX.xp, hX.P.tag, hX.P.f0, hX.P.f1, hX.P.f2, hX.lt, hX.l0, hX.l1, hX.l5, hX.l2, hX.l7, hX.fat, hX.kat, hX.lat, hX.kao, xsub]; done) | (simp [-List.getD_eq_getElem?_getD, xE_setI, xsz_setI, xsl_setI, xtag_setI, xown_setI, xlen_setI, xE_setR, xsz_setR, xsl_setR, xtag_setR, xown_setR, xlen_setR, xE_setW, xsz_setW, xsl_setW, xtag_setW, xown_setW, xlen_setW, xi_setR, xi_setW, xr_setI, xr_setW, xww_setI, xww_setR, xi_setI, xr_setR, xww_setW, xE_new, xsz_new, xsl_new, hX.tx, hX.xp, hX.P.tag, hX.P.f0, hX.P.f1, hX.P.f2, hX.lt, hX.l0, hX.l1, hX.l5, hX.l2, hX.l7, hX.fat, hX.kat, hX.lat, hX.kao] <;> rfl)) (by simp [-List.getD_eq_getElem?_getD, xE_setI, xsz_setI, xsl_setI, xtag_setI, xown_setI, xlen_setI, xE_setR, xsz_setR, xsl_setR, xtag_setR, xown_setR, xlen_setR, xE_setW, xsz_setW, xsl_setW, xtag_setW, xown_setW, xlen_setW, xi_setR, xi_setW, xr_setI, xr_setW, xww_setI, xww_setR, xi_setI, xr_setR, xww_setW, xE_new, xsz_new, xsl_new, hX.tx, hX.xp, hX.P.tag, hX.P.f0, hX.P.f1, hX.P.f2, hX.lt, hX.l0, hX.l1, hX.l5, hX.l2, hX.l7, hX.fat, hX.kat, hX.lat, hX.kao]) ?_
  refine xw_getS (b := (aL Z 2)) (pc := 9) fd_X5_92 dX5_holdsAgain_9 (by first | assumption | (simp [-List.getD_eq_getElem?_getD, xE_setI, xsz_setI, xsl_setI, xtag_setI, xown_setI, xlen_setI, xE_setR, xsz_setR, xsl_setR, xtag_setR, xown_setR, xlen_setR, xE_setW, xsz_setW, xsl_setW, xtag_setW, xown_setW, xlen_setW, xi_setR, xi_setW, xr_setI, xr_setW, xww_setI, xww_setR, xi_setI, xr_setR, xww_setW, xE_new, xsz_new, xsl_new, hX.tx, hX.xp, hX.P.tag, hX.P.f0, hX.P.f1, hX.P.f2, hX.lt, hX.l0, hX.l1, hX.l5, hX.l2, hX.l7, hX.fat, hX.kat, hX.lat, hX.kao, xsub]; done) | (simp [-List.getD_eq_getElem?_getD, xE_setI, xsz_setI, xsl_setI, xtag_setI, xown_setI, xlen_setI, xE_setR, xsz_setR, xsl_setR, xtag_setR, xown_setR, xlen_setR, xE_setW, xsz_setW, xsl_setW, xtag_setW, xown_setW, xlen_setW, xi_setR, xi_setW, xr_setI, xr_setW, xww_setI, xww_setR, xi_setI, xr_setR, xww_setW, xE_new, xsz_new, xsl_new, hX.tx, hX.xp, hX.P.tag, hX.P.f0, hX.P.f1, hX.P.f2, hX.lt, hX.l0, hX.l1, hX.l5, hX.l2, hX.l7, hX.fat, hX.kat, hX.lat, hX.kao] <;> rfl)) (by simp [-List.getD_eq_getElem?_getD, xE_setI, xsz_setI, xsl_setI, xtag_setI, xown_setI, xlen_setI, xE_setR, xsz_setR, xsl_setR, xtag_setR, xown_setR, xlen_setR, xE_setW, xsz_setW, xsl_setW, xtag_setW, xown_setW, xlen_setW, xi_setR, xi_setW, xr_setI, xr_setW, xww_setI, xww_setR, xi_setI, xr_setR, xww_setW, xE_new, xsz_new, xsl_new, hX.tx, hX.xp, hX.P.tag, hX.P.f0, hX.P.f1, hX.P.f2, hX.lt, hX.l0, hX.l1, hX.l5, hX.l2, hX.l7, hX.fat, hX.kat, hX.lat, hX.kao]) ?_
  refine xw_callV (pc := 12) (xr_V (as := []) ok_J2_size rfl (by decide) q754 q702 q703 (by rw [hX.P.l1.1]; rfl) (by rw [hX.P.l1.1]; rfl) dX5_holdsAgain_12 rfl rfl (Nat.le_of_ble_eq_true rfl)) (SP_J2_size hX.P.l1) ?_
  refine xw_iconst (v := nI 1) (pc := 15) dX5_holdsAgain_15 rfl ?_
  refine xn_isub (pc := 16) dX5_holdsAgain_16 (by omega) ?_
  refine xw_istore_n (l' := [(3, _), (2, _), (0, _), (1, _)]) (pc := 17) dX5_holdsAgain_17 rfl (by decide) rfl ?_
  rw [lr]
  exact lp_X5_holdsAgain hX hr (rr - 1) 0 (by omega) (by omega) (by decide) (fun jj hj => ⟨fun q => (by rw [Nat.zero_testBit] at q; cases q), fun ⟨t, h1, h2, _⟩ => by omega⟩)

