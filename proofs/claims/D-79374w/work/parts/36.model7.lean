/-! MODEL 7: prevailing, outcome, chain -/
set_option maxRecDepth 100000
def scN (s : Nat → Int32) (r : Nat) : Nat := aN s (23 + 20 * r + 1)
/-- above 0: a prevails over b -/
def abv (s : Nat → Int32) (a b : Nat) : Int32 := if nI (dep s (scN s a)) - nI (dep s (scN s b)) = 0 then (if s (23 + 20 * a + 2) - s (23 + 20 * b + 2) = 0 then s (23 + 20 * a + 3) - s (23 + 20 * b + 3) else s (23 + 20 * a + 2) - s (23 + 20 * b + 2)) else nI (dep s (scN s a)) - nI (dep s (scN s b))
theorem SP_X6_above {d : Nat} {g : xG} {m : Nat} {S : xMS} (hM : xMod g m) (n rr : Nat) (hn : n ≤ 10) (hr : rr ≤ 16) (hW : WFo (S 1) n) (hWr : WFr (S 1) n rr) (a b : Nat) (ha : a < rr) (hb : b < rr) : XM M_X6_above (d + 2) [.ref m, .int (nI a), .int (nI b)] (xWith g m S) (xOne (some (.int (abv (S 1) a b))) (xWith g m S)) := by
  obtain ⟨⟨o1, o2⟩, -, -⟩ := hWr a ha
  obtain ⟨⟨q1, q2⟩, -, -⟩ := hWr b hb
  have d1 := dep_le (S 1) (scN (S 1) a)
  have d2 := dep_le (S 1) (scN (S 1) b)
  refine xm_of (by decide +kernel) (Nat.le_of_ble_eq_true rfl) ?_
  show XW _ _ 0 [(0, _), (1, _), (2, _)] [] _ _
  refine xw_aload_n (pc := 0) dX6_above_0 0 rfl ?_
  refine xw_aload_n (pc := 1) dX6_above_1 0 rfl ?_
  refine xw_iload_n (pc := 2) dX6_above_2 1 rfl ?_
  refine xw_iconst (v := nI 1) (pc := 3) dX6_above_3 rfl ?_
  refine xw_callV (pc := 4) (xr_V (as := [_, _]) ok_X6_of rfl (by decide) q2396 q2398 qs53 (by rw [xtag_with, hM.1]; rfl) (by rw [xtag_with, hM.1]; rfl) dX6_above_4 rfl rfl (Nat.le_of_ble_eq_true rfl)) (SP_X6_ofN hM a (1) (scN (S 1) a) (by omega) (by exact o1)) ?_
  refine xw_callV (pc := 7) (xr_V (as := [_]) ok_X6_depthOf rfl (by decide) q2388 q2390 qs51 (by rw [xtag_with, hM.1]; rfl) (by rw [xtag_with, hM.1]; rfl) dX6_above_7 rfl rfl (Nat.le_of_ble_eq_true rfl)) (SP_X6_depthOf hM hW hn (scN (S 1) a) o2) ?_
  refine xw_aload_n (pc := 10) dX6_above_10 0 rfl ?_
  refine xw_aload_n (pc := 11) dX6_above_11 0 rfl ?_
  refine xw_iload_n (pc := 12) dX6_above_12 2 rfl ?_
  refine xw_iconst (v := nI 1) (pc := 13) dX6_above_13 rfl ?_
  refine xw_callV (pc := 14) (xr_V (as := [_, _]) ok_X6_of rfl (by decide) q2396 q2398 qs53 (by rw [xtag_with, hM.1]; rfl) (by rw [xtag_with, hM.1]; rfl) dX6_above_14 rfl rfl (Nat.le_of_ble_eq_true rfl)) (SP_X6_ofN hM b (1) (scN (S 1) b) (by omega) (by exact q1)) ?_
  refine xw_callV (pc := 17) (xr_V (as := [_]) ok_X6_depthOf rfl (by decide) q2388 q2390 qs51 (by rw [xtag_with, hM.1]; rfl) (by rw [xtag_with, hM.1]; rfl) dX6_above_17 rfl rfl (Nat.le_of_ble_eq_true rfl)) (SP_X6_depthOf hM hW hn (scN (S 1) b) q2) ?_
  refine xw_isub (pc := 20) dX6_above_20 ?_
  refine xw_istore_n (l' := [(3, _), (0, _), (1, _), (2, _)]) (pc := 21) dX6_above_21 rfl (by decide) rfl ?_
  refine xw_iload_n (pc := 22) dX6_above_22 0 rfl ?_
  refine xw_if_ne (pc := 23) 42 dX6_above_23 rfl (fun hb23 => ?_) (fun hb23 => ?_)
  · refine xw_iload_n (pc := 42) dX6_above_42 0 rfl ?_
    refine xw_istore_n (l' := [(3, _), (0, _), (1, _), (2, _)]) (pc := 43) dX6_above_43 rfl (by decide) rfl ?_
    refine xw_iload_n (pc := 44) dX6_above_44 0 rfl ?_
    refine xw_if_ne (pc := 45) 64 dX6_above_45 rfl (fun hb45 => ?_) (fun hb45 => ?_)
    · refine xw_iload_n (pc := 64) dX6_above_64 0 rfl ?_
      refine xw_iret (pc := 65) .int dX6_above_65 rfl ?_ 
      refine ⟨congrArg (fun x => Sum.inl (some (Value.int x))) ?_, rfl⟩
      unfold abv
      simp_all
    · refine xw_aload_n (pc := 48) dX6_above_48 1 rfl ?_
      refine xw_iload_n (pc := 49) dX6_above_49 2 rfl ?_
      refine xw_iconst (v := nI 3) (pc := 50) dX6_above_50 rfl ?_
      refine xw_callV (pc := 51) (xr_V (as := [_, _]) ok_X6_of rfl (by decide) q2396 q2398 qs53 (by rw [xtag_with, hM.1]; rfl) (by rw [xtag_with, hM.1]; rfl) dX6_above_51 rfl rfl (Nat.le_of_ble_eq_true rfl)) (SP_X6_of hM (a) (3) (by omega)) ?_
      refine xw_aload_n (pc := 54) dX6_above_54 1 rfl ?_
      refine xw_iload_n (pc := 55) dX6_above_55 3 rfl ?_
      refine xw_iconst (v := nI 3) (pc := 56) dX6_above_56 rfl ?_
      refine xw_callV (pc := 57) (xr_V (as := [_, _]) ok_X6_of rfl (by decide) q2396 q2398 qs53 (by rw [xtag_with, hM.1]; rfl) (by rw [xtag_with, hM.1]; rfl) dX6_above_57 rfl rfl (Nat.le_of_ble_eq_true rfl)) (SP_X6_of hM (b) (3) (by omega)) ?_
      refine xw_isub (pc := 60) dX6_above_60 ?_
      refine xw_goto (pc := 61) 65 dX6_above_61 rfl ?_
      refine xw_iret (pc := 65) .int dX6_above_65 rfl ?_ 
      refine ⟨congrArg (fun x => Sum.inl (some (Value.int x))) ?_, rfl⟩
      unfold abv
      simp_all
  · refine xw_aload_n (pc := 26) dX6_above_26 1 rfl ?_
    refine xw_iload_n (pc := 27) dX6_above_27 2 rfl ?_
    refine xw_iconst (v := nI 2) (pc := 28) dX6_above_28 rfl ?_
    refine xw_callV (pc := 29) (xr_V (as := [_, _]) ok_X6_of rfl (by decide) q2396 q2398 qs53 (by rw [xtag_with, hM.1]; rfl) (by rw [xtag_with, hM.1]; rfl) dX6_above_29 rfl rfl (Nat.le_of_ble_eq_true rfl)) (SP_X6_of hM (a) (2) (by omega)) ?_
    refine xw_aload_n (pc := 32) dX6_above_32 1 rfl ?_
    refine xw_iload_n (pc := 33) dX6_above_33 3 rfl ?_
    refine xw_iconst (v := nI 2) (pc := 34) dX6_above_34 rfl ?_
    refine xw_callV (pc := 35) (xr_V (as := [_, _]) ok_X6_of rfl (by decide) q2396 q2398 qs53 (by rw [xtag_with, hM.1]; rfl) (by rw [xtag_with, hM.1]; rfl) dX6_above_35 rfl rfl (Nat.le_of_ble_eq_true rfl)) (SP_X6_of hM (b) (2) (by omega)) ?_
    refine xw_isub (pc := 38) dX6_above_38 ?_
    refine xw_goto (pc := 39) 43 dX6_above_39 rfl ?_
    refine xw_istore_n (l' := [(3, _), (0, _), (1, _), (2, _)]) (pc := 43) dX6_above_43 rfl (by decide) rfl ?_
    refine xw_iload_n (pc := 44) dX6_above_44 0 rfl ?_
    refine xw_if_ne (pc := 45) 64 dX6_above_45 rfl (fun hb45 => ?_) (fun hb45 => ?_)
    · refine xw_iload_n (pc := 64) dX6_above_64 0 rfl ?_
      refine xw_iret (pc := 65) .int dX6_above_65 rfl ?_ 
      refine ⟨congrArg (fun x => Sum.inl (some (Value.int x))) ?_, rfl⟩
      unfold abv
      simp_all
    · refine xw_aload_n (pc := 48) dX6_above_48 1 rfl ?_
      refine xw_iload_n (pc := 49) dX6_above_49 2 rfl ?_
      refine xw_iconst (v := nI 3) (pc := 50) dX6_above_50 rfl ?_
      refine xw_callV (pc := 51) (xr_V (as := [_, _]) ok_X6_of rfl (by decide) q2396 q2398 qs53 (by rw [xtag_with, hM.1]; rfl) (by rw [xtag_with, hM.1]; rfl) dX6_above_51 rfl rfl (Nat.le_of_ble_eq_true rfl)) (SP_X6_of hM (a) (3) (by omega)) ?_
      refine xw_aload_n (pc := 54) dX6_above_54 1 rfl ?_
      refine xw_iload_n (pc := 55) dX6_above_55 3 rfl ?_
      refine xw_iconst (v := nI 3) (pc := 56) dX6_above_56 rfl ?_
      refine xw_callV (pc := 57) (xr_V (as := [_, _]) ok_X6_of rfl (by decide) q2396 q2398 qs53 (by rw [xtag_with, hM.1]; rfl) (by rw [xtag_with, hM.1]; rfl) dX6_above_57 rfl rfl (Nat.le_of_ble_eq_true rfl)) (SP_X6_of hM (b) (3) (by omega)) ?_
      refine xw_isub (pc := 60) dX6_above_60 ?_
      refine xw_goto (pc := 61) 65 dX6_above_61 rfl ?_
      refine xw_iret (pc := 65) .int dX6_above_65 rfl ?_ 
      refine ⟨congrArg (fun x => Sum.inl (some (Value.int x))) ?_, rfl⟩
      unfold abv
      simp_all
theorem ite_or {α : Type} {c : Prop} [Decidable c] {a b x : α} (h : (if c then a else b) = x) : a = x ∨ b = x := by
  by_cases hc : c
  · rw [if_pos hc] at h; exact Or.inl h
  · rw [if_neg hc] at h; exact Or.inr h
def oI : Option Nat → Int32
  | none => -1
  | some k => nI k
theorem oI_neg {x : Option Nat} (h : ∀ k, x = some k → k < 1000) : oI x < 0 ↔ x = none := by
  cases x with
  | none => exact ⟨fun _ => rfl, fun _ => by decide⟩
  | some k => exact ⟨fun q => absurd q (nI_pos (by have := h k rfl; omega)), fun q => by cases q⟩
def isMa (s : Nat → Int32) (r : Nat) : Bool := decide (s (23 + 20 * r + 5) < 0)
def prvK (s : Nat → Int32) (H : Nat → Bool) : Nat → Option Nat
  | 0 => none
  | k + 1 => if isMa s k && (H k && (match prvK s H k with
    | none => true
    | some b => decide (0 < abv s k b))) then some k else prvK s H k
theorem prvK_lt {s : Nat → Int32} {H : Nat → Bool} {k b : Nat} (h : prvK s H k = some b) : b < k := by
  induction k with
  | zero => cases h
  | succ k ih =>
    rw [prvK] at h
    rcases ite_or h with h | h
    · cases h; omega
    · have := ih h; omega
theorem lp_X6_prevailing {d : Nat} {g : xG} {m : Nat} {S : xMS} (hM : xMod g m) (n rr : Nat) (hn : n ≤ 10) (hr : rr ≤ 16) (h1 : S 1 1 = nI rr) (hW : WFo (S 1) n) (hWr : WFr (S 1) n rr) (H : Nat → Bool) (hH : ∀ r, r < rr → S 7 r = bI (H r)) : ∀ (j k : Nat), rr - k < j → k ≤ rr → XW M_X6_prevailing (d + 3) 4 [(2, .int (nI k)), (1, .int (oI (prvK (S 1) H k))), (0, .ref m)] [] (xWith g m S) (xOne (some (.int (oI (prvK (S 1) H rr)))) (xWith g m S)) := by
  intro j
  induction j with
  | zero => intro k h; omega
  | succ j ih =>
  intro k hj hk
  have hno := oI_neg (x := prvK (S 1) H k) (fun b hb => by have := prvK_lt hb; omega)
  refine xw_iload_n (pc := 4) dX6_prevailing_4 0 rfl ?_
  refine xw_aload_n (pc := 5) dX6_prevailing_5 2 rfl ?_
  refine xm_get (p := 1) (pc := 6) hM fd_X6_9 dX6_prevailing_6 rfl ?_
  refine xw_iconst (v := nI 1) (pc := 9) dX6_prevailing_9 rfl ?_
  refine xm_ialdN (v := rr) (pc := 10) hM dX6_prevailing_10 rfl (by omega) (by exact h1) ?_
  refine xw_icmp_ge (pc := 11) 53 dX6_prevailing_11 rfl (fun hb11 => ?_) (fun hb11 => ?_)
  · replace hb11 : rr ≤ k := (nI_leI (a := rr) (b := k) (by omega) (by omega)).mp hb11
    refine xw_iload_n (pc := 53) dX6_prevailing_53 1 rfl ?_
    refine xw_iret (pc := 54) .int dX6_prevailing_54 rfl ?_ 
    obtain rfl : k = rr := by omega
    exact ⟨rfl, rfl⟩
  · replace hb11 : ¬ (rr ≤ k) := mt (nI_leI (a := rr) (b := k) (by omega) (by omega)).mpr hb11
    refine xw_aload_n (pc := 14) dX6_prevailing_14 2 rfl ?_
    refine xw_iload_n (pc := 15) dX6_prevailing_15 0 rfl ?_
    refine xw_iconst (v := nI 5) (pc := 16) dX6_prevailing_16 rfl ?_
    refine xw_callV (pc := 17) (xr_V (as := [_, _]) ok_X6_of rfl (by decide) q2396 q2398 qs53 (by rw [xtag_with, hM.1]; rfl) (by rw [xtag_with, hM.1]; rfl) dX6_prevailing_17 rfl rfl (Nat.le_of_ble_eq_true rfl)) (SP_X6_of hM (k) (5) (by omega)) ?_
    refine xw_if_ge (pc := 20) 47 dX6_prevailing_20 rfl (fun hb20 => ?_) (fun hb20 => ?_)
    · refine xw_iinc (v := nI (k + 1)) (l' := [(2, _), (1, _), (0, _)]) (pc := 47) dX6_prevailing_47 0 rfl (nI_add _ 1) (by decide) rfl ?_
      refine xw_goto (pc := 50) 4 dX6_prevailing_50 rfl ?_
      have h := ih (k + 1) (by omega) (by omega)
      have hm : isMa (S 1) k = true ∨ isMa (S 1) k = false := by cases isMa (S 1) k <;> simp
      first
        | (have e : prvK (S 1) H (k + 1) = some k := by
             rw [prvK, if_pos]
             first
               | (rw [hno] at hb33; rw [hb33]; simp [isMa, hb29]; exact Int32.not_le.mp hb20)
               | (rw [hb]; simp [isMa, hb29]; exact ⟨Int32.not_le.mp hb20, Int32.not_le.mp hb42⟩)
           rw [e] at h
           exact h)
        | (have e : prvK (S 1) H (k + 1) = prvK (S 1) H k := by
             rw [prvK, if_neg]
             first
               | (simp [isMa, Int32.not_lt.mpr hb20]; done)
               | (simp [hb29]; done)
               | (rw [hb]; simp [Int32.not_lt.mpr hb42]; done)
           rw [e] at h
           first
             | exact h
             | (rw [hb] at h; exact h))
    · refine xw_aload_n (pc := 23) dX6_prevailing_23 2 rfl ?_
      refine xm_get (p := 7) (pc := 24) hM fd_X6_29 dX6_prevailing_24 rfl ?_
      refine xw_iload_n (pc := 27) dX6_prevailing_27 0 rfl ?_
      refine xm_zaldB (b := H k) (pc := 28) hM dX6_prevailing_28 rfl (by omega) (by exact hH k (by omega)) ?_
      refine xw_if_eq (pc := 29) 47 dX6_prevailing_29 rfl (fun hb29 => ?_) (fun hb29 => ?_)
      · replace hb29 := bI_0.mp hb29
        refine xw_iinc (v := nI (k + 1)) (l' := [(2, _), (1, _), (0, _)]) (pc := 47) dX6_prevailing_47 0 rfl (nI_add _ 1) (by decide) rfl ?_
        refine xw_goto (pc := 50) 4 dX6_prevailing_50 rfl ?_
        have h := ih (k + 1) (by omega) (by omega)
        have hm : isMa (S 1) k = true ∨ isMa (S 1) k = false := by cases isMa (S 1) k <;> simp
        first
          | (have e : prvK (S 1) H (k + 1) = some k := by
               rw [prvK, if_pos]
               first
                 | (rw [hno] at hb33; rw [hb33]; simp [isMa, hb29]; exact Int32.not_le.mp hb20)
                 | (rw [hb]; simp [isMa, hb29]; exact ⟨Int32.not_le.mp hb20, Int32.not_le.mp hb42⟩)
             rw [e] at h
             exact h)
          | (have e : prvK (S 1) H (k + 1) = prvK (S 1) H k := by
               rw [prvK, if_neg]
               first
                 | (simp [isMa, Int32.not_lt.mpr hb20]; done)
                 | (simp [hb29]; done)
                 | (rw [hb]; simp [Int32.not_lt.mpr hb42]; done)
             rw [e] at h
             first
               | exact h
               | (rw [hb] at h; exact h))
      · replace hb29 := bI_n0.mp hb29
        refine xw_iload_n (pc := 32) dX6_prevailing_32 1 rfl ?_
        refine xw_if_lt (pc := 33) 45 dX6_prevailing_33 rfl (fun hb33 => ?_) (fun hb33 => ?_)
        · refine xw_iload_n (pc := 45) dX6_prevailing_45 0 rfl ?_
          refine xw_istore_n (l' := [(1, _), (2, _), (0, _)]) (pc := 46) dX6_prevailing_46 rfl (by decide) rfl ?_
          refine xw_iinc (v := nI (k + 1)) (l' := [(2, _), (1, _), (0, _)]) (pc := 47) dX6_prevailing_47 1 rfl (nI_add _ 1) (by decide) rfl ?_
          refine xw_goto (pc := 50) 4 dX6_prevailing_50 rfl ?_
          have h := ih (k + 1) (by omega) (by omega)
          have hm : isMa (S 1) k = true ∨ isMa (S 1) k = false := by cases isMa (S 1) k <;> simp
          first
            | (have e : prvK (S 1) H (k + 1) = some k := by
                 rw [prvK, if_pos]
                 first
                   | (rw [hno] at hb33; rw [hb33]; simp [isMa, hb29]; exact Int32.not_le.mp hb20)
                   | (rw [hb]; simp [isMa, hb29]; exact ⟨Int32.not_le.mp hb20, Int32.not_le.mp hb42⟩)
               rw [e] at h
               exact h)
            | (have e : prvK (S 1) H (k + 1) = prvK (S 1) H k := by
                 rw [prvK, if_neg]
                 first
                   | (simp [isMa, Int32.not_lt.mpr hb20]; done)
                   | (simp [hb29]; done)
                   | (rw [hb]; simp [Int32.not_lt.mpr hb42]; done)
               rw [e] at h
               first
                 | exact h
                 | (rw [hb] at h; exact h))
        · obtain ⟨b, hb⟩ : ∃ b, prvK (S 1) H k = some b := by
            cases hp : prvK (S 1) H k with
            | none => exact absurd (hno.mpr hp) hb33
            | some b => exact ⟨b, rfl⟩
          have hbk := prvK_lt hb
          rw [hb]
          refine xw_aload_n (pc := 36) dX6_prevailing_36 2 rfl ?_
          refine xw_iload_n (pc := 37) dX6_prevailing_37 0 rfl ?_
          refine xw_iload_n (pc := 38) dX6_prevailing_38 1 rfl ?_
          refine xw_callV (pc := 39) (xr_V (as := [_, _]) ok_X6_above rfl (by decide) q2540 q2542 qs72 (by rw [xtag_with, hM.1]; rfl) (by rw [xtag_with, hM.1]; rfl) dX6_prevailing_39 rfl rfl (Nat.le_of_ble_eq_true rfl)) (SP_X6_above hM n rr hn hr hW hWr k b (by omega) (by omega)) ?_
          refine xw_if_le (pc := 42) 47 dX6_prevailing_42 rfl (fun hb42 => ?_) (fun hb42 => ?_)
          · refine xw_iinc (v := nI (k + 1)) (l' := [(2, _), (1, _), (0, _)]) (pc := 47) dX6_prevailing_47 0 rfl (nI_add _ 1) (by decide) rfl ?_
            refine xw_goto (pc := 50) 4 dX6_prevailing_50 rfl ?_
            have h := ih (k + 1) (by omega) (by omega)
            have hm : isMa (S 1) k = true ∨ isMa (S 1) k = false := by cases isMa (S 1) k <;> simp
            first
              | (have e : prvK (S 1) H (k + 1) = some k := by
                   rw [prvK, if_pos]
                   first
                     | (rw [hno] at hb33; rw [hb33]; simp [isMa, hb29]; exact Int32.not_le.mp hb20)
                     | (rw [hb]; simp [isMa, hb29]; exact ⟨Int32.not_le.mp hb20, Int32.not_le.mp hb42⟩)
                 rw [e] at h
                 exact h)
              | (have e : prvK (S 1) H (k + 1) = prvK (S 1) H k := by
                   rw [prvK, if_neg]
                   first
                     | (simp [isMa, Int32.not_lt.mpr hb20]; done)
                     | (simp [hb29]; done)
                     | (rw [hb]; simp [Int32.not_lt.mpr hb42]; done)
                 rw [e] at h
                 first
                   | exact h
                   | (rw [hb] at h; exact h))
          · refine xw_iload_n (pc := 45) dX6_prevailing_45 0 rfl ?_
            refine xw_istore_n (l' := [(1, _), (2, _), (0, _)]) (pc := 46) dX6_prevailing_46 rfl (by decide) rfl ?_
            refine xw_iinc (v := nI (k + 1)) (l' := [(2, _), (1, _), (0, _)]) (pc := 47) dX6_prevailing_47 1 rfl (nI_add _ 1) (by decide) rfl ?_
            refine xw_goto (pc := 50) 4 dX6_prevailing_50 rfl ?_
            have h := ih (k + 1) (by omega) (by omega)
            have hm : isMa (S 1) k = true ∨ isMa (S 1) k = false := by cases isMa (S 1) k <;> simp
            first
              | (have e : prvK (S 1) H (k + 1) = some k := by
                   rw [prvK, if_pos]
                   first
                     | (rw [hno] at hb33; rw [hb33]; simp [isMa, hb29]; exact Int32.not_le.mp hb20)
                     | (rw [hb]; simp [isMa, hb29]; exact ⟨Int32.not_le.mp hb20, Int32.not_le.mp hb42⟩)
                 rw [e] at h
                 exact h)
              | (have e : prvK (S 1) H (k + 1) = prvK (S 1) H k := by
                   rw [prvK, if_neg]
                   first
                     | (simp [isMa, Int32.not_lt.mpr hb20]; done)
                     | (simp [hb29]; done)
                     | (rw [hb]; simp [Int32.not_lt.mpr hb42]; done)
                 rw [e] at h
                 first
                   | exact h
                   | (rw [hb] at h; exact h))
theorem SP_X6_prevailing {d : Nat} {g : xG} {m : Nat} {S : xMS} (hM : xMod g m) (n rr : Nat) (hn : n ≤ 10) (hr : rr ≤ 16) (h1 : S 1 1 = nI rr) (hW : WFo (S 1) n) (hWr : WFr (S 1) n rr) (H : Nat → Bool) (hH : ∀ r, r < rr → S 7 r = bI (H r)) : XM M_X6_prevailing (d + 3) [.ref m] (xWith g m S) (xOne (some (.int (oI (prvK (S 1) H rr)))) (xWith g m S)) := by
  refine xm_of (by decide +kernel) (Nat.le_of_ble_eq_true rfl) ?_
  show XW _ _ 0 [(0, _)] [] _ _
  refine xw_iconst (v := -1) (pc := 0) dX6_prevailing_0 (by decide +kernel) ?_
  refine xw_istore_n (l' := [(1, _), (0, _)]) (pc := 1) dX6_prevailing_1 rfl (by decide) rfl ?_
  refine xw_iconst (v := nI 0) (pc := 2) dX6_prevailing_2 rfl ?_
  refine xw_istore_n (l' := [(2, _), (1, _), (0, _)]) (pc := 3) dX6_prevailing_3 rfl (by decide) rfl ?_
  exact lp_X6_prevailing hM n rr hn hr h1 hW hWr H hH (rr + 1) 0 (by omega) (by omega)
/-- the outcome of a case: the number of an effect -/
def ocm (s : Nat → Int32) (H : Nat → Bool) (rr k : Nat) : Int32 := match prvK s H rr with
  | none => dfl s k
  | some b => s (23 + 20 * b + 0)
theorem SP_X6_outcomeOf {d : Nat} {g : xG} {m : Nat} {S : xMS} (hM : xMod g m) (n rr k : Nat) (hn : n ≤ 10) (hr : rr ≤ 16) (hk : k < n) (h1 : S 1 1 = nI rr) (hW : WFo (S 1) n) (hWr : WFr (S 1) n rr) (day feats : Int32) (C H : Nat → Bool) (hC : C = cov (S 1) (S 0 14) k day feats) (hH : H = hld (isPa (S 1)) rr C) (h4 : ¬ S 1 4 < 0) : XM M_X6_outcomeOf (d + 4) [.ref m, .int (nI k), .int day, .int feats] (xWith g m S) (xOne (some (.int (ocm (S 1) H rr k))) (xWith g m (lookP S C H 0 rr))) := by
  have e1 : (lookP S C H 0 rr) 1 = S 1 := lookP_q (by decide) (by decide)
  have hno := oI_neg (x := prvK (S 1) H rr) (fun b hb => by have := prvK_lt hb; omega)
  refine xm_of (by decide +kernel) (Nat.le_of_ble_eq_true rfl) ?_
  show XW _ _ 0 [(0, _), (1, _), (2, _), (3, _)] [] _ _
  refine xw_aload_n (pc := 0) dX6_outcomeOf_0 0 rfl ?_
  refine xw_iload_n (pc := 1) dX6_outcomeOf_1 1 rfl ?_
  refine xw_iload_n (pc := 2) dX6_outcomeOf_2 2 rfl ?_
  refine xw_iload_n (pc := 3) dX6_outcomeOf_3 3 rfl ?_
  refine xw_callU (pc := 4) (xr_V (as := [_, _, _]) ok_X6_look rfl (by decide) q2519 q2521 qs69 (by rw [xtag_with, hM.1]; rfl) (by rw [xtag_with, hM.1]; rfl) dX6_outcomeOf_4 rfl rfl (Nat.le_of_ble_eq_true rfl)) (SP_X6_look hM n rr k hn hr hk h1 hW hWr day feats C H hC hH) ?_
  refine xw_aload_n (pc := 7) dX6_outcomeOf_7 0 rfl ?_
  refine xw_callV (pc := 8) (xr_V (as := []) ok_X6_prevailing rfl (by decide) q2536 q2538 qs71 (by rw [xtag_with, hM.1]; rfl) (by rw [xtag_with, hM.1]; rfl) dX6_outcomeOf_8 rfl rfl (Nat.le_of_ble_eq_true rfl)) (SP_X6_prevailing hM n rr hn hr (by rw [e1]; exact h1) (by rw [e1]; exact hW) (by rw [e1]; exact hWr) H (fun r hr9 => lookP_7 (Nat.zero_le r) hr9)) ?_
  rw [e1]
  refine xw_istore (l' := [(4, _), (0, _), (1, _), (2, _), (3, _)]) (pc := 11) dX6_outcomeOf_11 (by decide) rfl ?_
  refine xw_iload (pc := 13) dX6_outcomeOf_13 0 rfl ?_
  refine xw_if_ge (pc := 15) 26 dX6_outcomeOf_15 rfl (fun hb15 => ?_) (fun hb15 => ?_)
  · obtain ⟨b, hb⟩ : ∃ b, prvK (S 1) H rr = some b := by
      cases hp : prvK (S 1) H rr with
      | none => exact absurd (hno.mpr hp) (by first | exact hb15 | exact Int32.not_lt.mpr hb15)
      | some b => exact ⟨b, rfl⟩
    have hbk := prvK_lt hb
    rw [hb]
    refine xw_aload_n (pc := 26) dX6_outcomeOf_26 1 rfl ?_
    refine xw_iload (pc := 27) dX6_outcomeOf_27 0 rfl ?_
    refine xw_iconst (v := nI 0) (pc := 29) dX6_outcomeOf_29 rfl ?_
    refine xw_callV (pc := 30) (xr_V (as := [_, _]) ok_X6_of rfl (by decide) q2396 q2398 qs53 (by rw [xtag_with, hM.1]; rfl) (by rw [xtag_with, hM.1]; rfl) dX6_outcomeOf_30 rfl rfl (Nat.le_of_ble_eq_true rfl)) (SP_X6_of hM (b) (0) (by omega)) ?_
    refine xw_iret (pc := 33) .int dX6_outcomeOf_33 rfl ?_ 
    first
      | (refine ⟨congrArg (fun x => Sum.inl (some (Value.int x))) ?_, rfl⟩
         have hb16 := hno.mp (Int32.not_le.mp hb15)
         rw [e1, ocm, hb16])
      | (refine ⟨congrArg (fun x => Sum.inl (some (Value.int x))) ?_, rfl⟩
         rw [e1, ocm, hb])
  · refine xw_aload_n (pc := 18) dX6_outcomeOf_18 1 rfl ?_
    refine xw_iload_n (pc := 19) dX6_outcomeOf_19 2 rfl ?_
    refine xw_callV (pc := 20) (xr_V (as := [_]) ok_X6_defaultFor rfl (by decide) q2392 q2394 qs52 (by rw [xtag_with, hM.1]; rfl) (by rw [xtag_with, hM.1]; rfl) dX6_outcomeOf_20 rfl rfl (Nat.le_of_ble_eq_true rfl)) (SP_X6_defaultFor hM (n := n) (by rw [e1]; exact hW) hn (by rw [e1]; exact h4) k hk) ?_
    refine xw_goto (pc := 23) 33 dX6_outcomeOf_23 rfl ?_
    refine xw_iret (pc := 33) .int dX6_outcomeOf_33 rfl ?_ 
    first
      | (refine ⟨congrArg (fun x => Sum.inl (some (Value.int x))) ?_, rfl⟩
         have hb16 := hno.mp (Int32.not_le.mp hb15)
         rw [e1, ocm, hb16])
      | (refine ⟨congrArg (fun x => Sum.inl (some (Value.int x))) ?_, rfl⟩
         rw [e1, ocm, hb])
/-- of the exceptions of r in F, among the i next to it, the best -/
def nxK (s : Nat → Int32) (F : Nat → Bool) (r : Nat) : Nat → Option Nat
  | 0 => none
  | i + 1 => if isPa s (r + 1 + i) r && (F (r + 1 + i) && (match nxK s F r i with
    | none => true
    | some b => decide (s (23 + 20 * b + 2) < s (23 + 20 * (r + 1 + i) + 2)))) then some (r + 1 + i) else nxK s F r i
theorem nxK_lt {s : Nat → Int32} {F : Nat → Bool} {r i b : Nat} (h : nxK s F r i = some b) : r < b ∧ b < r + 1 + i := by
  induction i with
  | zero => cases h
  | succ k ih =>
    rw [nxK] at h
    rcases ite_or h with h | h
    · cases h; omega
    · have := ih h; omega
theorem lp_X6_nextOf {d : Nat} {g : xG} {m : Nat} {S : xMS} (hM : xMod g m) (rr : Nat) (hr : rr ≤ 16) (h1 : S 1 1 = nI rr) (r : Nat) (hrr : r < rr) (hd9 : Bool) (C H F : Nat → Bool) (hH : ∀ r, r < rr → S 7 r = bI (H r)) (hC : ∀ r, r < rr → S 6 r = bI (C r)) (hF : F = if hd9 then H else C) : ∀ (j k : Nat), rr - r - 1 - k < j → k ≤ rr - r - 1 → XW M_X6_nextOf (d + 2) 7 [(4, .int (nI (r + 1 + k))), (3, .int (oI (nxK (S 1) F r k))), (0, .ref m), (1, .int (nI r)), (2, .int (bI hd9))] [] (xWith g m S) (xOne (some (.int (oI (nxK (S 1) F r (rr - r - 1))))) (xWith g m S)) := by
  intro j
  induction j with
  | zero => intro k h; omega
  | succ j ih =>
  intro k hj hk
  have hno := oI_neg (x := nxK (S 1) F r k) (fun b hb => by have := nxK_lt hb; omega)
  refine xw_iload (pc := 7) dX6_nextOf_7 0 rfl ?_
  refine xw_aload_n (pc := 9) dX6_nextOf_9 2 rfl ?_
  refine xm_get (p := 1) (pc := 10) hM fd_X6_9 dX6_nextOf_10 rfl ?_
  refine xw_iconst (v := nI 1) (pc := 13) dX6_nextOf_13 rfl ?_
  refine xm_ialdN (v := rr) (pc := 14) hM dX6_nextOf_14 rfl (by omega) (by exact h1) ?_
  refine xw_icmp_ge (pc := 15) 101 dX6_nextOf_15 rfl (fun hb15 => ?_) (fun hb15 => ?_)
  · replace hb15 : rr ≤ r + 1 + k := (nI_leI (a := rr) (b := r + 1 + k) (by omega) (by omega)).mp hb15
    refine xw_iload_n (pc := 101) dX6_nextOf_101 1 rfl ?_
    refine xw_iret (pc := 102) .int dX6_nextOf_102 rfl ?_ 
    obtain rfl : k = rr - r - 1 := by omega
    exact ⟨rfl, rfl⟩
  · replace hb15 : ¬ (rr ≤ r + 1 + k) := mt (nI_leI (a := rr) (b := r + 1 + k) (by omega) (by omega)).mpr hb15
    refine xw_aload_n (pc := 18) dX6_nextOf_18 2 rfl ?_
    refine xw_iload (pc := 19) dX6_nextOf_19 0 rfl ?_
    refine xw_iconst (v := nI 5) (pc := 21) dX6_nextOf_21 rfl ?_
    refine xw_callV (pc := 22) (xr_V (as := [_, _]) ok_X6_of rfl (by decide) q2396 q2398 qs53 (by rw [xtag_with, hM.1]; rfl) (by rw [xtag_with, hM.1]; rfl) dX6_nextOf_22 rfl rfl (Nat.le_of_ble_eq_true rfl)) (SP_X6_of hM (r + 1 + k) (5) (by omega)) ?_
    refine xw_iload_n (pc := 25) dX6_nextOf_25 3 rfl ?_
    refine xw_icmp_ne (pc := 26) 60 dX6_nextOf_26 rfl (fun hb26 => ?_) (fun hb26 => ?_)
    · refine xw_iconst (v := nI 0) (pc := 60) dX6_nextOf_60 rfl ?_
      refine xw_istore (l' := [(5, _), (4, _), (3, _), (0, _), (1, _), (2, _)]) (pc := 61) dX6_nextOf_61 (by decide) rfl ?_
      refine xw_iload (pc := 63) dX6_nextOf_63 0 rfl ?_
      refine xw_if_eq (pc := 65) 93 dX6_nextOf_65 rfl (fun _ => ?_) (fun hb => absurd hb (by decide))
      refine xw_iload_n (pc := 93) dX6_nextOf_93 2 rfl ?_
      refine xw_istore_n (l' := [(3, _), (5, _), (4, _), (0, _), (1, _), (2, _)]) (pc := 94) dX6_nextOf_94 rfl (by decide) rfl ?_
      refine xw_iinc (v := nI (r + 1 + k + 1)) (l' := [(4, _), (3, _), (5, _), (0, _), (1, _), (2, _)]) (pc := 95) dX6_nextOf_95 2 rfl (nI_add _ 1) (by decide) rfl ?_
      refine xw_goto (pc := 98) 7 dX6_nextOf_98 rfl ?_
      refine xw_pick (pc := 7) (l' := [(4, _), (3, _), (0, _), (1, _), (2, _)]) [0, 1, 3, 4, 5] rfl ?_
      have h := ih (k + 1) (by omega) (by omega)
      first
        | (have e : nxK (S 1) F r (k + 1) = some (r + 1 + k) := by
             rw [nxK, if_pos]
             first
               | (rw [hno] at hb69; rw [hb69]; simp [isPa, hF, *]; done)
               | (rw [hb]; have hx := Int32.not_le.mp hb85; simp [isPa, hF, *]; done)
           rw [e] at h
           exact h)
        | (have e : nxK (S 1) F r (k + 1) = nxK (S 1) F r k := by
             rw [nxK, if_neg]
             first
               | (simp [isPa, hb26]; done)
               | (simp [hF, *]; done)
               | (rw [hb]; have hx := Int32.not_lt.mpr hb85; simp [hx]; done)
           rw [e] at h
           first
             | exact h
             | (rw [hb] at h; exact h))
    · refine xw_iload_n (pc := 29) dX6_nextOf_29 4 rfl ?_
      refine xw_if_eq (pc := 30) 46 dX6_nextOf_30 rfl (fun hb30 => ?_) (fun hb30 => ?_)
      · replace hb30 := bI_0.mp hb30
        refine xw_aload_n (pc := 46) dX6_nextOf_46 2 rfl ?_
        refine xm_get (p := 6) (pc := 47) hM fd_X6_25 dX6_nextOf_47 rfl ?_
        refine xw_iload (pc := 50) dX6_nextOf_50 0 rfl ?_
        refine xm_zaldB (b := C (r + 1 + k)) (pc := 52) hM dX6_nextOf_52 rfl (by omega) (by exact hC _ (by omega)) ?_
        refine xw_if_eq (pc := 53) 60 dX6_nextOf_53 rfl (fun hb53 => ?_) (fun hb53 => ?_)
        · replace hb53 := bI_0.mp hb53
          refine xw_iconst (v := nI 0) (pc := 60) dX6_nextOf_60 rfl ?_
          refine xw_istore (l' := [(5, _), (4, _), (3, _), (0, _), (1, _), (2, _)]) (pc := 61) dX6_nextOf_61 (by decide) rfl ?_
          refine xw_iload (pc := 63) dX6_nextOf_63 0 rfl ?_
          refine xw_if_eq (pc := 65) 93 dX6_nextOf_65 rfl (fun _ => ?_) (fun hb => absurd hb (by decide))
          refine xw_iload_n (pc := 93) dX6_nextOf_93 2 rfl ?_
          refine xw_istore_n (l' := [(3, _), (5, _), (4, _), (0, _), (1, _), (2, _)]) (pc := 94) dX6_nextOf_94 rfl (by decide) rfl ?_
          refine xw_iinc (v := nI (r + 1 + k + 1)) (l' := [(4, _), (3, _), (5, _), (0, _), (1, _), (2, _)]) (pc := 95) dX6_nextOf_95 2 rfl (nI_add _ 1) (by decide) rfl ?_
          refine xw_goto (pc := 98) 7 dX6_nextOf_98 rfl ?_
          refine xw_pick (pc := 7) (l' := [(4, _), (3, _), (0, _), (1, _), (2, _)]) [0, 1, 3, 4, 5] rfl ?_
          have h := ih (k + 1) (by omega) (by omega)
          first
            | (have e : nxK (S 1) F r (k + 1) = some (r + 1 + k) := by
                 rw [nxK, if_pos]
                 first
                   | (rw [hno] at hb69; rw [hb69]; simp [isPa, hF, *]; done)
                   | (rw [hb]; have hx := Int32.not_le.mp hb85; simp [isPa, hF, *]; done)
               rw [e] at h
               exact h)
            | (have e : nxK (S 1) F r (k + 1) = nxK (S 1) F r k := by
                 rw [nxK, if_neg]
                 first
                   | (simp [isPa, hb26]; done)
                   | (simp [hF, *]; done)
                   | (rw [hb]; have hx := Int32.not_lt.mpr hb85; simp [hx]; done)
               rw [e] at h
               first
                 | exact h
                 | (rw [hb] at h; exact h))
        · replace hb53 := bI_n0.mp hb53
          refine xw_iconst (v := nI 1) (pc := 56) dX6_nextOf_56 rfl ?_
          refine xw_goto (pc := 57) 61 dX6_nextOf_57 rfl ?_
          refine xw_istore (l' := [(5, _), (4, _), (3, _), (0, _), (1, _), (2, _)]) (pc := 61) dX6_nextOf_61 (by decide) rfl ?_
          refine xw_iload (pc := 63) dX6_nextOf_63 0 rfl ?_
          refine xw_if_eq (pc := 65) 93 dX6_nextOf_65 rfl (fun hb => absurd hb (by decide)) (fun _ => ?_)
          refine xw_iload_n (pc := 68) dX6_nextOf_68 2 rfl ?_
          refine xw_if_lt (pc := 69) 88 dX6_nextOf_69 rfl (fun hb69 => ?_) (fun hb69 => ?_)
          · refine xw_iload (pc := 88) dX6_nextOf_88 1 rfl ?_
            refine xw_goto (pc := 90) 94 dX6_nextOf_90 rfl ?_
            refine xw_istore_n (l' := [(3, _), (5, _), (4, _), (0, _), (1, _), (2, _)]) (pc := 94) dX6_nextOf_94 rfl (by decide) rfl ?_
            refine xw_iinc (v := nI (r + 1 + k + 1)) (l' := [(4, _), (3, _), (5, _), (0, _), (1, _), (2, _)]) (pc := 95) dX6_nextOf_95 2 rfl (nI_add _ 1) (by decide) rfl ?_
            refine xw_goto (pc := 98) 7 dX6_nextOf_98 rfl ?_
            refine xw_pick (pc := 7) (l' := [(4, _), (3, _), (0, _), (1, _), (2, _)]) [0, 1, 3, 4, 5] rfl ?_
            have h := ih (k + 1) (by omega) (by omega)
            first
              | (have e : nxK (S 1) F r (k + 1) = some (r + 1 + k) := by
                   rw [nxK, if_pos]
                   first
                     | (rw [hno] at hb69; rw [hb69]; simp [isPa, hF, *]; done)
                     | (rw [hb]; have hx := Int32.not_le.mp hb85; simp [isPa, hF, *]; done)
                 rw [e] at h
                 exact h)
              | (have e : nxK (S 1) F r (k + 1) = nxK (S 1) F r k := by
                   rw [nxK, if_neg]
                   first
                     | (simp [isPa, hb26]; done)
                     | (simp [hF, *]; done)
                     | (rw [hb]; have hx := Int32.not_lt.mpr hb85; simp [hx]; done)
                 rw [e] at h
                 first
                   | exact h
                   | (rw [hb] at h; exact h))
          · obtain ⟨b, hb⟩ : ∃ b, nxK (S 1) F r k = some b := by
              cases hp : nxK (S 1) F r k with
              | none => exact absurd (hno.mpr hp) hb69
              | some b => exact ⟨b, rfl⟩
            have hbk := nxK_lt hb
            rw [hb]
            refine xw_aload_n (pc := 72) dX6_nextOf_72 3 rfl ?_
            refine xw_iload (pc := 73) dX6_nextOf_73 1 rfl ?_
            refine xw_iconst (v := nI 2) (pc := 75) dX6_nextOf_75 rfl ?_
            refine xw_callV (pc := 76) (xr_V (as := [_, _]) ok_X6_of rfl (by decide) q2396 q2398 qs53 (by rw [xtag_with, hM.1]; rfl) (by rw [xtag_with, hM.1]; rfl) dX6_nextOf_76 rfl rfl (Nat.le_of_ble_eq_true rfl)) (SP_X6_of hM (r + 1 + k) (2) (by omega)) ?_
            refine xw_aload_n (pc := 79) dX6_nextOf_79 3 rfl ?_
            refine xw_iload_n (pc := 80) dX6_nextOf_80 2 rfl ?_
            refine xw_iconst (v := nI 2) (pc := 81) dX6_nextOf_81 rfl ?_
            refine xw_callV (pc := 82) (xr_V (as := [_, _]) ok_X6_of rfl (by decide) q2396 q2398 qs53 (by rw [xtag_with, hM.1]; rfl) (by rw [xtag_with, hM.1]; rfl) dX6_nextOf_82 rfl rfl (Nat.le_of_ble_eq_true rfl)) (SP_X6_of hM (b) (2) (by omega)) ?_
            refine xw_icmp_le (pc := 85) 93 dX6_nextOf_85 rfl (fun hb85 => ?_) (fun hb85 => ?_)
            · refine xw_iload_n (pc := 93) dX6_nextOf_93 2 rfl ?_
              refine xw_istore_n (l' := [(3, _), (5, _), (4, _), (0, _), (1, _), (2, _)]) (pc := 94) dX6_nextOf_94 rfl (by decide) rfl ?_
              refine xw_iinc (v := nI (r + 1 + k + 1)) (l' := [(4, _), (3, _), (5, _), (0, _), (1, _), (2, _)]) (pc := 95) dX6_nextOf_95 2 rfl (nI_add _ 1) (by decide) rfl ?_
              refine xw_goto (pc := 98) 7 dX6_nextOf_98 rfl ?_
              refine xw_pick (pc := 7) (l' := [(4, _), (3, _), (0, _), (1, _), (2, _)]) [0, 1, 3, 4, 5] rfl ?_
              have h := ih (k + 1) (by omega) (by omega)
              first
                | (have e : nxK (S 1) F r (k + 1) = some (r + 1 + k) := by
                     rw [nxK, if_pos]
                     first
                       | (rw [hno] at hb69; rw [hb69]; simp [isPa, hF, *]; done)
                       | (rw [hb]; have hx := Int32.not_le.mp hb85; simp [isPa, hF, *]; done)
                   rw [e] at h
                   exact h)
                | (have e : nxK (S 1) F r (k + 1) = nxK (S 1) F r k := by
                     rw [nxK, if_neg]
                     first
                       | (simp [isPa, hb26]; done)
                       | (simp [hF, *]; done)
                       | (rw [hb]; have hx := Int32.not_lt.mpr hb85; simp [hx]; done)
                   rw [e] at h
                   first
                     | exact h
                     | (rw [hb] at h; exact h))
            · refine xw_iload (pc := 88) dX6_nextOf_88 1 rfl ?_
              refine xw_goto (pc := 90) 94 dX6_nextOf_90 rfl ?_
              refine xw_istore_n (l' := [(3, _), (5, _), (4, _), (0, _), (1, _), (2, _)]) (pc := 94) dX6_nextOf_94 rfl (by decide) rfl ?_
              refine xw_iinc (v := nI (r + 1 + k + 1)) (l' := [(4, _), (3, _), (5, _), (0, _), (1, _), (2, _)]) (pc := 95) dX6_nextOf_95 2 rfl (nI_add _ 1) (by decide) rfl ?_
              refine xw_goto (pc := 98) 7 dX6_nextOf_98 rfl ?_
              refine xw_pick (pc := 7) (l' := [(4, _), (3, _), (0, _), (1, _), (2, _)]) [0, 1, 3, 4, 5] rfl ?_
              have h := ih (k + 1) (by omega) (by omega)
              first
                | (have e : nxK (S 1) F r (k + 1) = some (r + 1 + k) := by
                     rw [nxK, if_pos]
                     first
                       | (rw [hno] at hb69; rw [hb69]; simp [isPa, hF, *]; done)
                       | (rw [hb]; have hx := Int32.not_le.mp hb85; simp [isPa, hF, *]; done)
                   rw [e] at h
                   exact h)
                | (have e : nxK (S 1) F r (k + 1) = nxK (S 1) F r k := by
                     rw [nxK, if_neg]
                     first
                       | (simp [isPa, hb26]; done)
                       | (simp [hF, *]; done)
                       | (rw [hb]; have hx := Int32.not_lt.mpr hb85; simp [hx]; done)
                   rw [e] at h
                   first
                     | exact h
                     | (rw [hb] at h; exact h))
      · replace hb30 := bI_n0.mp hb30
        refine xw_aload_n (pc := 33) dX6_nextOf_33 2 rfl ?_
        refine xm_get (p := 7) (pc := 34) hM fd_X6_29 dX6_nextOf_34 rfl ?_
        refine xw_iload (pc := 37) dX6_nextOf_37 0 rfl ?_
        refine xm_zaldB (b := H (r + 1 + k)) (pc := 39) hM dX6_nextOf_39 rfl (by omega) (by exact hH _ (by omega)) ?_
        refine xw_if_eq (pc := 40) 60 dX6_nextOf_40 rfl (fun hb40 => ?_) (fun hb40 => ?_)
        · replace hb40 := bI_0.mp hb40
          refine xw_iconst (v := nI 0) (pc := 60) dX6_nextOf_60 rfl ?_
          refine xw_istore (l' := [(5, _), (4, _), (3, _), (0, _), (1, _), (2, _)]) (pc := 61) dX6_nextOf_61 (by decide) rfl ?_
          refine xw_iload (pc := 63) dX6_nextOf_63 0 rfl ?_
          refine xw_if_eq (pc := 65) 93 dX6_nextOf_65 rfl (fun _ => ?_) (fun hb => absurd hb (by decide))
          refine xw_iload_n (pc := 93) dX6_nextOf_93 2 rfl ?_
          refine xw_istore_n (l' := [(3, _), (5, _), (4, _), (0, _), (1, _), (2, _)]) (pc := 94) dX6_nextOf_94 rfl (by decide) rfl ?_
          refine xw_iinc (v := nI (r + 1 + k + 1)) (l' := [(4, _), (3, _), (5, _), (0, _), (1, _), (2, _)]) (pc := 95) dX6_nextOf_95 2 rfl (nI_add _ 1) (by decide) rfl ?_
          refine xw_goto (pc := 98) 7 dX6_nextOf_98 rfl ?_
          refine xw_pick (pc := 7) (l' := [(4, _), (3, _), (0, _), (1, _), (2, _)]) [0, 1, 3, 4, 5] rfl ?_
          have h := ih (k + 1) (by omega) (by omega)
          first
            | (have e : nxK (S 1) F r (k + 1) = some (r + 1 + k) := by
                 rw [nxK, if_pos]
                 first
                   | (rw [hno] at hb69; rw [hb69]; simp [isPa, hF, *]; done)
                   | (rw [hb]; have hx := Int32.not_le.mp hb85; simp [isPa, hF, *]; done)
               rw [e] at h
               exact h)
            | (have e : nxK (S 1) F r (k + 1) = nxK (S 1) F r k := by
                 rw [nxK, if_neg]
                 first
                   | (simp [isPa, hb26]; done)
                   | (simp [hF, *]; done)
                   | (rw [hb]; have hx := Int32.not_lt.mpr hb85; simp [hx]; done)
               rw [e] at h
               first
                 | exact h
                 | (rw [hb] at h; exact h))
        · replace hb40 := bI_n0.mp hb40
          refine xw_goto (pc := 43) 56 dX6_nextOf_43 rfl ?_
          refine xw_iconst (v := nI 1) (pc := 56) dX6_nextOf_56 rfl ?_
          refine xw_goto (pc := 57) 61 dX6_nextOf_57 rfl ?_
          refine xw_istore (l' := [(5, _), (4, _), (3, _), (0, _), (1, _), (2, _)]) (pc := 61) dX6_nextOf_61 (by decide) rfl ?_
          refine xw_iload (pc := 63) dX6_nextOf_63 0 rfl ?_
          refine xw_if_eq (pc := 65) 93 dX6_nextOf_65 rfl (fun hb => absurd hb (by decide)) (fun _ => ?_)
          refine xw_iload_n (pc := 68) dX6_nextOf_68 2 rfl ?_
          refine xw_if_lt (pc := 69) 88 dX6_nextOf_69 rfl (fun hb69 => ?_) (fun hb69 => ?_)
          · refine xw_iload (pc := 88) dX6_nextOf_88 1 rfl ?_
            refine xw_goto (pc := 90) 94 dX6_nextOf_90 rfl ?_
            refine xw_istore_n (l' := [(3, _), (5, _), (4, _), (0, _), (1, _), (2, _)]) (pc := 94) dX6_nextOf_94 rfl (by decide) rfl ?_
            refine xw_iinc (v := nI (r + 1 + k + 1)) (l' := [(4, _), (3, _), (5, _), (0, _), (1, _), (2, _)]) (pc := 95) dX6_nextOf_95 2 rfl (nI_add _ 1) (by decide) rfl ?_
            refine xw_goto (pc := 98) 7 dX6_nextOf_98 rfl ?_
            refine xw_pick (pc := 7) (l' := [(4, _), (3, _), (0, _), (1, _), (2, _)]) [0, 1, 3, 4, 5] rfl ?_
            have h := ih (k + 1) (by omega) (by omega)
            first
              | (have e : nxK (S 1) F r (k + 1) = some (r + 1 + k) := by
                   rw [nxK, if_pos]
                   first
                     | (rw [hno] at hb69; rw [hb69]; simp [isPa, hF, *]; done)
                     | (rw [hb]; have hx := Int32.not_le.mp hb85; simp [isPa, hF, *]; done)
                 rw [e] at h
                 exact h)
              | (have e : nxK (S 1) F r (k + 1) = nxK (S 1) F r k := by
                   rw [nxK, if_neg]
                   first
                     | (simp [isPa, hb26]; done)
                     | (simp [hF, *]; done)
                     | (rw [hb]; have hx := Int32.not_lt.mpr hb85; simp [hx]; done)
                 rw [e] at h
                 first
                   | exact h
                   | (rw [hb] at h; exact h))
          · obtain ⟨b, hb⟩ : ∃ b, nxK (S 1) F r k = some b := by
              cases hp : nxK (S 1) F r k with
              | none => exact absurd (hno.mpr hp) hb69
              | some b => exact ⟨b, rfl⟩
            have hbk := nxK_lt hb
            rw [hb]
            refine xw_aload_n (pc := 72) dX6_nextOf_72 3 rfl ?_
            refine xw_iload (pc := 73) dX6_nextOf_73 1 rfl ?_
            refine xw_iconst (v := nI 2) (pc := 75) dX6_nextOf_75 rfl ?_
            refine xw_callV (pc := 76) (xr_V (as := [_, _]) ok_X6_of rfl (by decide) q2396 q2398 qs53 (by rw [xtag_with, hM.1]; rfl) (by rw [xtag_with, hM.1]; rfl) dX6_nextOf_76 rfl rfl (Nat.le_of_ble_eq_true rfl)) (SP_X6_of hM (r + 1 + k) (2) (by omega)) ?_
            refine xw_aload_n (pc := 79) dX6_nextOf_79 3 rfl ?_
            refine xw_iload_n (pc := 80) dX6_nextOf_80 2 rfl ?_
            refine xw_iconst (v := nI 2) (pc := 81) dX6_nextOf_81 rfl ?_
            refine xw_callV (pc := 82) (xr_V (as := [_, _]) ok_X6_of rfl (by decide) q2396 q2398 qs53 (by rw [xtag_with, hM.1]; rfl) (by rw [xtag_with, hM.1]; rfl) dX6_nextOf_82 rfl rfl (Nat.le_of_ble_eq_true rfl)) (SP_X6_of hM (b) (2) (by omega)) ?_
            refine xw_icmp_le (pc := 85) 93 dX6_nextOf_85 rfl (fun hb85 => ?_) (fun hb85 => ?_)
            · refine xw_iload_n (pc := 93) dX6_nextOf_93 2 rfl ?_
              refine xw_istore_n (l' := [(3, _), (5, _), (4, _), (0, _), (1, _), (2, _)]) (pc := 94) dX6_nextOf_94 rfl (by decide) rfl ?_
              refine xw_iinc (v := nI (r + 1 + k + 1)) (l' := [(4, _), (3, _), (5, _), (0, _), (1, _), (2, _)]) (pc := 95) dX6_nextOf_95 2 rfl (nI_add _ 1) (by decide) rfl ?_
              refine xw_goto (pc := 98) 7 dX6_nextOf_98 rfl ?_
              refine xw_pick (pc := 7) (l' := [(4, _), (3, _), (0, _), (1, _), (2, _)]) [0, 1, 3, 4, 5] rfl ?_
              have h := ih (k + 1) (by omega) (by omega)
              first
                | (have e : nxK (S 1) F r (k + 1) = some (r + 1 + k) := by
                     rw [nxK, if_pos]
                     first
                       | (rw [hno] at hb69; rw [hb69]; simp [isPa, hF, *]; done)
                       | (rw [hb]; have hx := Int32.not_le.mp hb85; simp [isPa, hF, *]; done)
                   rw [e] at h
                   exact h)
                | (have e : nxK (S 1) F r (k + 1) = nxK (S 1) F r k := by
                     rw [nxK, if_neg]
                     first
                       | (simp [isPa, hb26]; done)
                       | (simp [hF, *]; done)
                       | (rw [hb]; have hx := Int32.not_lt.mpr hb85; simp [hx]; done)
                   rw [e] at h
                   first
                     | exact h
                     | (rw [hb] at h; exact h))
            · refine xw_iload (pc := 88) dX6_nextOf_88 1 rfl ?_
              refine xw_goto (pc := 90) 94 dX6_nextOf_90 rfl ?_
              refine xw_istore_n (l' := [(3, _), (5, _), (4, _), (0, _), (1, _), (2, _)]) (pc := 94) dX6_nextOf_94 rfl (by decide) rfl ?_
              refine xw_iinc (v := nI (r + 1 + k + 1)) (l' := [(4, _), (3, _), (5, _), (0, _), (1, _), (2, _)]) (pc := 95) dX6_nextOf_95 2 rfl (nI_add _ 1) (by decide) rfl ?_
              refine xw_goto (pc := 98) 7 dX6_nextOf_98 rfl ?_
              refine xw_pick (pc := 7) (l' := [(4, _), (3, _), (0, _), (1, _), (2, _)]) [0, 1, 3, 4, 5] rfl ?_
              have h := ih (k + 1) (by omega) (by omega)
              first
                | (have e : nxK (S 1) F r (k + 1) = some (r + 1 + k) := by
                     rw [nxK, if_pos]
                     first
                       | (rw [hno] at hb69; rw [hb69]; simp [isPa, hF, *]; done)
                       | (rw [hb]; have hx := Int32.not_le.mp hb85; simp [isPa, hF, *]; done)
                   rw [e] at h
                   exact h)
                | (have e : nxK (S 1) F r (k + 1) = nxK (S 1) F r k := by
                     rw [nxK, if_neg]
                     first
                       | (simp [isPa, hb26]; done)
                       | (simp [hF, *]; done)
                       | (rw [hb]; have hx := Int32.not_lt.mpr hb85; simp [hx]; done)
                   rw [e] at h
                   first
                     | exact h
                     | (rw [hb] at h; exact h))
theorem SP_X6_nextOf {d : Nat} {g : xG} {m : Nat} {S : xMS} (hM : xMod g m) (rr : Nat) (hr : rr ≤ 16) (h1 : S 1 1 = nI rr) (r : Nat) (hrr : r < rr) (hd9 : Bool) (C H F : Nat → Bool) (hH : ∀ r, r < rr → S 7 r = bI (H r)) (hC : ∀ r, r < rr → S 6 r = bI (C r)) (hF : F = if hd9 then H else C) : XM M_X6_nextOf (d + 2) [.ref m, .int (nI r), .int (bI hd9)] (xWith g m S) (xOne (some (.int (oI (nxK (S 1) F r (rr - r - 1))))) (xWith g m S)) := by
  refine xm_of (by decide +kernel) (Nat.le_of_ble_eq_true rfl) ?_
  show XW _ _ 0 [(0, _), (1, _), (2, _)] [] _ _
  refine xw_iconst (v := -1) (pc := 0) dX6_nextOf_0 (by decide +kernel) ?_
  refine xw_istore_n (l' := [(3, _), (0, _), (1, _), (2, _)]) (pc := 1) dX6_nextOf_1 rfl (by decide) rfl ?_
  refine xw_iload_n (pc := 2) dX6_nextOf_2 2 rfl ?_
  refine xw_iconst (v := nI 1) (pc := 3) dX6_nextOf_3 rfl ?_
  refine xn_iadd (pc := 4) dX6_nextOf_4 ?_
  refine xw_istore (l' := [(4, _), (3, _), (0, _), (1, _), (2, _)]) (pc := 5) dX6_nextOf_5 (by decide) rfl ?_
  exact lp_X6_nextOf hM rr hr h1 r hrr hd9 C H F hH hC hF (rr + 1) 0 (by omega) (by omega)
theorem lp0_X6_findChain {d : Nat} {g : xG} {m : Nat} {S : xMS} (hM : xMod g m) {a b c : Int32} : XW M_X6_findChain (d + 4) 18 [(4, .int (oI none)), (0, .ref m), (1, .int a), (2, .int b), (3, .int c)] [] (xWith g m S) (xOne none (xWith g m S)) := by
  refine xw_iload (pc := 18) dX6_findChain_18 0 rfl ?_
  refine xw_if_lt (pc := 20) 75 dX6_findChain_20 rfl (fun hb20 => ?_) (fun hb20 => ?_)
  rotate_left
  · exfalso
    exact hb20 (by decide)
  refine xw_vret (pc := 75) dX6_findChain_75 rfl ?_
  exact ⟨rfl, rfl⟩
/-- the next link of a chain behind r -/
def nxt (s : Nat → Int32) (C H : Nat → Bool) (rr r : Nat) : Option Nat := match nxK s H r (rr - r - 1) with
  | some x => some x
  | none => nxK s C r (rr - r - 1)
def chF (s : Nat → Int32) (C H : Nat → Bool) (rr : Nat) : Nat → Nat → List Nat
  | 0, _ => []
  | f + 1, r => r :: (match nxt s C H rr r with
    | none => []
    | some x => chF s C H rr f x)
/-- the chain, as a list -/
def chn (s : Nat → Int32) (C H : Nat → Bool) (rr : Nat) : List Nat := match prvK s H rr with
  | none => []
  | some r => chF s C H rr rr r
theorem nxt_lt {s : Nat → Int32} {C H : Nat → Bool} {rr r x : Nat} (h : nxt s C H rr r = some x) (hr : r < rr) : r < x ∧ x < rr := by
  unfold nxt at h
  cases hq : nxK s H r (rr - r - 1) with
  | some y =>
    rw [hq] at h
    cases h
    have := nxK_lt hq
    omega
  | none =>
    rw [hq] at h
    have := nxK_lt h
    omega
theorem chF_len {s : Nat → Int32} {C H : Nat → Bool} {rr : Nat} : ∀ (f r : Nat), r < rr → (chF s C H rr f r).length ≤ rr - r := by
  intro f
  induction f with
  | zero => intro r _; exact Nat.zero_le _
  | succ f ih =>
    intro r hr
    rw [chF]
    cases hq : nxt s C H rr r with
    | none => simp; omega
    | some x =>
      have h := nxt_lt hq hr
      have := ih x h.2
      simp only [List.length_cons]
      omega
/-- the chain laid -/
def chnS (S : xMS) (L : List Nat) : xMS := fun p j => if p = 8 ∧ j < L.length then nI (L.getD j 0) else if p = 0 ∧ j = 16 then nI L.length else S p j
theorem chnS_q {S : xMS} {L : List Nat} {q : Nat} (h8 : q ≠ 8) (h0 : q ≠ 0) : chnS S L q = S q := by
  funext j
  unfold chnS
  rw [if_neg (fun e => h8 e.1), if_neg (fun e => h0 e.1)]
theorem chnS_0 {S : xMS} {L : List Nat} {j : Nat} : chnS S L 0 j = if j = 16 then nI L.length else S 0 j := by
  unfold chnS
  rw [if_neg (fun e => absurd e.1 (by decide))]
  by_cases h : j = 16
  · rw [if_pos ⟨rfl, h⟩, if_pos h]
  · rw [if_neg (fun e => h e.2), if_neg h]
theorem chnS_8 {S : xMS} {L : List Nat} {j : Nat} (h : j < L.length) : chnS S L 8 j = nI (L.getD j 0) := by
  unfold chnS
  rw [if_pos ⟨rfl, h⟩]
theorem chnS_S {S : xMS} {L : List Nat} {r : Nat} : mset (mset (chnS S L) 8 L.length (nI r)) 0 16 (nI (L.length + 1)) = chnS S (L ++ [r]) := by
  funext p j
  unfold mset chnS
  rw [List.length_append, List.length_singleton]
  by_cases h0 : p = 0
  · subst h0
    by_cases hj : j = 16
    · rw [if_pos ⟨rfl, hj⟩, if_neg (by omega), if_pos ⟨rfl, hj⟩]
    · rw [if_neg (fun e => hj e.2), if_neg (by omega), if_neg (by omega), if_neg (fun e => hj e.2), if_neg (by omega), if_neg (fun e => hj e.2)]
  · rw [if_neg (fun e => h0 e.1)]
    by_cases h8 : p = 8
    · subst h8
      by_cases hj : j = L.length
      · subst hj
        rw [if_pos ⟨rfl, rfl⟩, if_pos ⟨rfl, by omega⟩, List.getD_eq_getElem?_getD, List.getElem?_concat_length]
        rfl
      · rw [if_neg (fun e => hj e.2)]
        by_cases hl : j < L.length
        · rw [if_pos ⟨rfl, hl⟩, if_pos ⟨rfl, by omega⟩, List.getD_eq_getElem?_getD, List.getD_eq_getElem?_getD, List.getElem?_append_left hl]
        · rw [if_neg (fun e => hl e.2), if_neg (fun e => h0 e.1), if_neg (by omega), if_neg (fun e => h0 e.1)]
    · rw [if_neg (fun e => h8 e.1), if_neg (fun e => h8 e.1), if_neg (fun e => h0 e.1), if_neg (fun e => h8 e.1), if_neg (fun e => h0 e.1)]
theorem lp_X6_findChain {d : Nat} {g : xG} {m : Nat} {S : xMS} (hM : xMod g m) (rr : Nat) (hr : rr ≤ 16) (h1 : S 1 1 = nI rr) (C H : Nat → Bool) (hH : ∀ r, r < rr → S 7 r = bI (H r)) (hC : ∀ r, r < rr → S 6 r = bI (C r)) {a b c : Int32} : ∀ (f r : Nat) (L : List Nat), r < rr → rr - r ≤ f → L.length ≤ r → XW M_X6_findChain (d + 4) 18 [(4, .int (nI r)), (0, .ref m), (1, .int a), (2, .int b), (3, .int c)] [] (xWith g m (chnS S L)) (xOne none (xWith g m (chnS S (L ++ chF (S 1) C H rr f r)))) := by
  intro f
  induction f with
  | zero => intro r L h1 h2; omega
  | succ f ih =>
  intro r L hrr hf hL
  have e1 : ∀ L, (chnS S L) 1 = S 1 := fun L => chnS_q (by decide) (by decide)
  have e6 : ∀ L, (chnS S L) 6 = S 6 := fun L => chnS_q (by decide) (by decide)
  have e7 : ∀ L, (chnS S L) 7 = S 7 := fun L => chnS_q (by decide) (by decide)
  have hH' : ∀ L r, r < rr → chnS S L 7 r = bI (H r) := fun L r h => by rw [e7]; exact hH r h
  have hC' : ∀ L r, r < rr → chnS S L 6 r = bI (C r) := fun L r h => by rw [e6]; exact hC r h
  have n1 := SP_X6_nextOf (d := d + 1) (S := chnS S (L ++ [r])) hM rr hr (by rw [e1]; exact h1) r hrr true C H H (hH' _) (hC' _) rfl
  have n2 := SP_X6_nextOf (d := d + 1) (S := chnS S (L ++ [r])) hM rr hr (by rw [e1]; exact h1) r hrr false C H C (hH' _) (hC' _) rfl
  rw [e1] at n1 n2
  have i1 := oI_neg (x := nxK (S 1) H r (rr - r - 1)) (fun b hb => by have := nxK_lt hb; omega)
  have i2 := oI_neg (x := nxK (S 1) C r (rr - r - 1)) (fun b hb => by have := nxK_lt hb; omega)
  have hcm : (chnS S L) 0 16 = nI L.length := by rw [chnS_0, if_pos rfl]
  refine xw_iload (pc := 18) dX6_findChain_18 0 rfl ?_
  refine xw_if_lt (pc := 20) 75 dX6_findChain_20 rfl (fun hb20 => ?_) (fun hb20 => ?_)
  · exfalso
    replace hb20 : r < 0 := (nI_ltI (a := r) (b := 0) (by omega) (by omega)).mp hb20
    omega
  replace hb20 : ¬ (r < 0) := mt (nI_ltI (a := r) (b := 0) (by omega) (by omega)).mpr hb20
  refine xw_aload_n (pc := 23) dX6_findChain_23 1 rfl ?_
  refine xm_get (p := 8) (pc := 24) hM fd_X6_36 dX6_findChain_24 rfl ?_
  refine xw_aload_n (pc := 27) dX6_findChain_27 1 rfl ?_
  refine xm_getN (k := L.length) (pc := 28) hM fd_X6_188 dX6_findChain_28 (by first | exact hcm | (rw [mset_q (by decide)]; exact hcm)) ?_
  refine xw_iload (pc := 31) dX6_findChain_31 0 rfl ?_
  refine xm_iast (pc := 33) hM dX6_findChain_33 rfl (by omega) ?_
  refine xw_aload_n (pc := 34) dX6_findChain_34 1 rfl ?_
  refine xw_dup (pc := 35) dX6_findChain_35 rfl ?_
  refine xm_getN (k := L.length) (pc := 36) hM fd_X6_188 dX6_findChain_36 (by first | exact hcm | (rw [mset_q (by decide)]; exact hcm)) ?_
  refine xw_iconst (v := nI 1) (pc := 39) dX6_findChain_39 rfl ?_
  refine xn_iadd (pc := 40) dX6_findChain_40 ?_
  refine xm_putI (pc := 41) hM fd_X6_188 (xfin_of (by decide) (by decide +kernel)) dX6_findChain_41 ?_
  rw [chnS_S]
  refine xw_aload_n (pc := 44) dX6_findChain_44 1 rfl ?_
  refine xw_iload (pc := 45) dX6_findChain_45 0 rfl ?_
  refine xw_iconst (v := nI 1) (pc := 47) dX6_findChain_47 rfl ?_
  refine xw_callV (pc := 48) (xr_V (as := [_, _]) ok_X6_nextOf rfl (by decide) q2552 q2554 qs74 (by rw [xtag_with, hM.1]; rfl) (by rw [xtag_with, hM.1]; rfl) dX6_findChain_48 rfl rfl (Nat.le_of_ble_eq_true rfl)) (n1) ?_
  refine xw_istore (l' := [(5, _), (4, _), (0, _), (1, _), (2, _), (3, _)]) (pc := 51) dX6_findChain_51 (by decide) rfl ?_
  refine xw_iload (pc := 53) dX6_findChain_53 0 rfl ?_
  refine xw_if_ge (pc := 55) 68 dX6_findChain_55 rfl (fun hb55 => ?_) (fun hb55 => ?_)
  · refine xw_iload (pc := 68) dX6_findChain_68 0 rfl ?_
    refine xw_istore (l' := [(4, _), (5, _), (0, _), (1, _), (2, _), (3, _)]) (pc := 70) dX6_findChain_70 (by decide) rfl ?_
    refine xw_goto (pc := 72) 18 dX6_findChain_72 rfl ?_
    refine xw_pick (pc := 18) (l' := [(4, _), (0, _), (1, _), (2, _), (3, _)]) [0, 2, 3, 4, 5] rfl ?_
    first
      | (
         have hx : ∃ x, nxt (S 1) C H rr r = some x ∧ oI (nxK (S 1) H r (rr - r - 1)) = nI x := by
           cases hq : nxK (S 1) H r (rr - r - 1) with
           | none => exact absurd hb55 (by rw [hq]; decide)
           | some x => exact ⟨x, by unfold nxt; rw [hq], rfl⟩
         obtain ⟨x, hx1, hx2⟩ := hx
         have hl := nxt_lt hx1 hrr
         have h := ih x (L ++ [r]) hl.2 (by omega) (by simp; omega)
         rw [hx2, chF, hx1, show L ++ r :: chF (S 1) C H rr f x = L ++ [r] ++ chF (S 1) C H rr f x from by simp]
         exact h)
      | (
         have hq := i1.mp (Int32.not_le.mp hb55)
         cases hq2 : nxK (S 1) C r (rr - r - 1) with
         | none =>
           have hxn : nxt (S 1) C H rr r = none := by unfold nxt; rw [hq]; exact hq2
           rw [chF, hxn]
           exact lp0_X6_findChain hM
         | some x =>
           have hx1 : nxt (S 1) C H rr r = some x := by unfold nxt; rw [hq]; exact hq2
           have hl := nxt_lt hx1 hrr
           have h := ih x (L ++ [r]) hl.2 (by omega) (by simp; omega)
           rw [chF, hx1, show L ++ r :: chF (S 1) C H rr f x = L ++ [r] ++ chF (S 1) C H rr f x from by simp]
           exact h)
  · refine xw_aload_n (pc := 58) dX6_findChain_58 2 rfl ?_
    refine xw_iload (pc := 59) dX6_findChain_59 1 rfl ?_
    refine xw_iconst (v := nI 0) (pc := 61) dX6_findChain_61 rfl ?_
    refine xw_callV (pc := 62) (xr_V (as := [_, _]) ok_X6_nextOf rfl (by decide) q2552 q2554 qs74 (by rw [xtag_with, hM.1]; rfl) (by rw [xtag_with, hM.1]; rfl) dX6_findChain_62 rfl rfl (Nat.le_of_ble_eq_true rfl)) (n2) ?_
    refine xw_goto (pc := 65) 70 dX6_findChain_65 rfl ?_
    refine xw_istore (l' := [(4, _), (5, _), (0, _), (1, _), (2, _), (3, _)]) (pc := 70) dX6_findChain_70 (by decide) rfl ?_
    refine xw_goto (pc := 72) 18 dX6_findChain_72 rfl ?_
    refine xw_pick (pc := 18) (l' := [(4, _), (0, _), (1, _), (2, _), (3, _)]) [0, 2, 3, 4, 5] rfl ?_
    first
      | (
         have hx : ∃ x, nxt (S 1) C H rr r = some x ∧ oI (nxK (S 1) H r (rr - r - 1)) = nI x := by
           cases hq : nxK (S 1) H r (rr - r - 1) with
           | none => exact absurd hb55 (by rw [hq]; decide)
           | some x => exact ⟨x, by unfold nxt; rw [hq], rfl⟩
         obtain ⟨x, hx1, hx2⟩ := hx
         have hl := nxt_lt hx1 hrr
         have h := ih x (L ++ [r]) hl.2 (by omega) (by simp; omega)
         rw [hx2, chF, hx1, show L ++ r :: chF (S 1) C H rr f x = L ++ [r] ++ chF (S 1) C H rr f x from by simp]
         exact h)
      | (
         have hq := i1.mp (Int32.not_le.mp hb55)
         cases hq2 : nxK (S 1) C r (rr - r - 1) with
         | none =>
           have hxn : nxt (S 1) C H rr r = none := by unfold nxt; rw [hq]; exact hq2
           rw [chF, hxn]
           exact lp0_X6_findChain hM
         | some x =>
           have hx1 : nxt (S 1) C H rr r = some x := by unfold nxt; rw [hq]; exact hq2
           have hl := nxt_lt hx1 hrr
           have h := ih x (L ++ [r]) hl.2 (by omega) (by simp; omega)
           rw [chF, hx1, show L ++ r :: chF (S 1) C H rr f x = L ++ [r] ++ chF (S 1) C H rr f x from by simp]
           exact h)
theorem SP_X6_findChain {d : Nat} {g : xG} {m : Nat} {S : xMS} (hM : xMod g m) (n rr k : Nat) (hn : n ≤ 10) (hr : rr ≤ 16) (hk : k < n) (h1 : S 1 1 = nI rr) (hW : WFo (S 1) n) (hWr : WFr (S 1) n rr) (day feats : Int32) (C H : Nat → Bool) (hC : C = cov (S 1) (S 0 14) k day feats) (hH : H = hld (isPa (S 1)) rr C) : XM M_X6_findChain (d + 4) [.ref m, .int (nI k), .int day, .int feats] (xWith g m S) (xOne none (xWith g m (chnS (lookP S C H 0 rr) (chn (S 1) C H rr)))) := by
  have e1 : (lookP S C H 0 rr) 1 = S 1 := lookP_q (by decide) (by decide)
  have e2 : ∀ L, (chnS (lookP S C H 0 rr) L) 1 = S 1 := fun L => (chnS_q (by decide) (by decide)).trans e1
  have hz : mset (lookP S C H 0 rr) 0 16 (nI 0) = chnS (lookP S C H 0 rr) [] := by
    funext p j
    unfold mset chnS
    rw [if_neg (show ¬ (p = 8 ∧ j < ([] : List Nat).length) from by simp)]
    rfl
  refine xm_of (by decide +kernel) (Nat.le_of_ble_eq_true rfl) ?_
  show XW _ _ 0 [(0, _), (1, _), (2, _), (3, _)] [] _ _
  refine xw_aload_n (pc := 0) dX6_findChain_0 0 rfl ?_
  refine xw_iload_n (pc := 1) dX6_findChain_1 1 rfl ?_
  refine xw_iload_n (pc := 2) dX6_findChain_2 2 rfl ?_
  refine xw_iload_n (pc := 3) dX6_findChain_3 3 rfl ?_
  refine xw_callU (pc := 4) (xr_V (as := [_, _, _]) ok_X6_look rfl (by decide) q2519 q2521 qs69 (by rw [xtag_with, hM.1]; rfl) (by rw [xtag_with, hM.1]; rfl) dX6_findChain_4 rfl rfl (Nat.le_of_ble_eq_true rfl)) (SP_X6_look hM n rr k hn hr hk h1 hW hWr day feats C H hC hH) ?_
  refine xw_aload_n (pc := 7) dX6_findChain_7 0 rfl ?_
  refine xw_iconst (v := nI 0) (pc := 8) dX6_findChain_8 rfl ?_
  refine xm_putI (pc := 9) hM fd_X6_188 (xfin_of (by decide) (by decide +kernel)) dX6_findChain_9 ?_
  refine xw_aload_n (pc := 12) dX6_findChain_12 0 rfl ?_
  refine xw_callV (pc := 13) (xr_V (as := []) ok_X6_prevailing rfl (by decide) q2536 q2538 qs71 (by rw [xtag_with, hM.1]; rfl) (by rw [xtag_with, hM.1]; rfl) dX6_findChain_13 rfl rfl (Nat.le_of_ble_eq_true rfl)) (SP_X6_prevailing hM n rr hn hr (by rw [hz, e2]; exact h1) (by rw [hz, e2]; exact hW) (by rw [hz, e2]; exact hWr) H (fun r hr9 => by rw [mset_q (by decide)]; exact lookP_7 (Nat.zero_le r) hr9)) ?_
  refine xw_istore (l' := [(4, _), (0, _), (1, _), (2, _), (3, _)]) (pc := 16) dX6_findChain_16 (by decide) rfl ?_
  rw [hz, e2]
  unfold chn
  cases hp : prvK (S 1) H rr with
  | none => exact lp0_X6_findChain hM
  | some r =>
    have hrl := prvK_lt hp
    have h := lp_X6_findChain (d := d) (S := lookP S C H 0 rr) (a := nI k) (b := day) (c := feats) hM rr hr (by rw [e1]; exact h1) C H (fun r h => lookP_7 (Nat.zero_le r) h) (fun r h => lookP_6 (Nat.zero_le r) h) rr r [] hrl (by omega) (Nat.zero_le _)
    rw [e1] at h
    exact h
