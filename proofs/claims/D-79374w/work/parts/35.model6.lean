/-! MODEL 6: a case is looked at -/
set_option maxRecDepth 100000
theorem allK_f {P : Nat → Bool} {a b : Nat} (h : a ≤ b) (ha : allK P a = false) : allK P b = false := by
  induction b with
  | zero =>
    obtain rfl : a = 0 := by omega
    exact ha
  | succ b ih =>
    by_cases hb : a = b + 1
    · rw [← hb]; exact ha
    · rw [allK, ih (by omega)]; rfl
/-- the rules are well laid, for looking -/
def WFr (s : Nat → Int32) (n rr : Nat) : Prop := ∀ r, r < rr → isN s (23 + 20 * r + 1) n ∧ isN s (23 + 20 * r + 7) 5 ∧ ∀ j, j < aN s (23 + 20 * r + 7) → isN s (23 + 20 * r + (8 + 3 * j)) 6 ∧ isN s (23 + 20 * r + (8 + 3 * j + 1)) 4
def tC (s : Nat → Int32) (feats : Int32) (r j : Nat) : Bool := fulf (dig feats (aN s (23 + 20 * r + (8 + 3 * j)))) (aN s (23 + 20 * r + (8 + 3 * j + 1))) (s (23 + 20 * r + (8 + 3 * j + 2)))
def cvB (s : Nat → Int32) (wo : Int32) (k : Nat) (day : Int32) (r : Nat) : Bool := !decide (nI r = wo) && (wit s k (aN s (23 + 20 * r + 1)) && inR day (s (23 + 20 * r + 3)) (s (23 + 20 * r + 4)))
/-- whether the rule r covers the case -/
def cov (s : Nat → Int32) (wo : Int32) (k : Nat) (day feats : Int32) (r : Nat) : Bool := cvB s wo k day r && allK (tC s feats r) (aN s (23 + 20 * r + 7))
theorem lp_X6_coversNow {d : Nat} {g : xG} {m : Nat} {S : xMS} (hM : xMod g m) (n rr : Nat) (hn : n ≤ 10) (hr : rr ≤ 16) (hWr : WFr (S 1) n rr) (r : Nat) (hrr : r < rr) {a b feats : Int32} (B : Bool) : ∀ (jj j : Nat), aN (S 1) (23 + 20 * r + 7) - j < jj → j ≤ aN (S 1) (23 + 20 * r + 7) → XW M_X6_coversNow (d + 2) 51 [(6, .int (nI j)), (5, .int (bI (B && allK (tC (S 1) feats r) j))), (0, .ref m), (1, .int (nI r)), (2, .int a), (3, .int b), (4, .int feats)] [] (xWith g m S) (xOne (some (.int (bI (B && allK (tC (S 1) feats r) (aN (S 1) (23 + 20 * r + 7)))))) (xWith g m S)) := by
  intro jj
  induction jj with
  | zero => intro r h; omega
  | succ jj ih =>
  intro j hj hk
  obtain ⟨-, ⟨hT, hT5⟩, hs9⟩ := hWr r hrr
  have hs : j < aN (S 1) (23 + 20 * r + 7) → _ := hs9 j
  refine xw_iload (pc := 51) dX6_coversNow_51 0 rfl ?_
  refine xw_aload_n (pc := 53) dX6_coversNow_53 2 rfl ?_
  refine xw_iload_n (pc := 54) dX6_coversNow_54 3 rfl ?_
  refine xw_bipush (v := nI 7) (pc := 55) dX6_coversNow_55 (by decide +kernel) ?_
  refine xw_callV (pc := 57) (xr_V (as := [_, _]) ok_X6_of rfl (by decide) q2396 q2398 qs53 (by rw [xtag_with, hM.1]; rfl) (by rw [xtag_with, hM.1]; rfl) dX6_coversNow_57 rfl rfl (Nat.le_of_ble_eq_true rfl)) (SP_X6_ofN hM r (7) (aN (S 1) (23 + 20 * r + 7)) (by omega) (by exact hT)) ?_
  refine xw_icmp_ge (pc := 60) 118 dX6_coversNow_60 rfl (fun hb60 => ?_) (fun hb60 => ?_)
  · replace hb60 : aN (S 1) (23 + 20 * r + 7) ≤ j := (nI_leI (a := aN (S 1) (23 + 20 * r + 7)) (b := j) (by omega) (by omega)).mp hb60
    refine xw_iload (pc := 118) dX6_coversNow_118 1 rfl ?_
    refine xw_iret (pc := 120) .boolean dX6_coversNow_120 rfl ?_ (by first | rfl | (cases ‹Bool› <;> rfl) | exact xnB _)
    by_cases hjt : j = aN (S 1) (23 + 20 * r + 7)
    · subst hjt
      exact ⟨rfl, rfl⟩
    · have hf : (B && allK (tC (S 1) feats r) j) = false := by first | exact hb65 | omega
      have hf2 : (B && allK (tC (S 1) feats r) (aN (S 1) (23 + 20 * r + 7))) = false := by
        cases B with
        | false => rfl
        | true => exact allK_f hk hf
      rw [hf2, ← hf]
      exact ⟨rfl, rfl⟩
  · replace hb60 : ¬ (aN (S 1) (23 + 20 * r + 7) ≤ j) := mt (nI_leI (a := aN (S 1) (23 + 20 * r + 7)) (b := j) (by omega) (by omega)).mpr hb60
    refine xw_iload (pc := 63) dX6_coversNow_63 1 rfl ?_
    refine xw_if_eq (pc := 65) 118 dX6_coversNow_65 rfl (fun hb65 => ?_) (fun hb65 => ?_)
    · replace hb65 := bI_0.mp hb65
      refine xw_iload (pc := 118) dX6_coversNow_118 1 rfl ?_
      refine xw_iret (pc := 120) .boolean dX6_coversNow_120 rfl ?_ (by first | rfl | (cases ‹Bool› <;> rfl) | exact xnB _)
      by_cases hjt : j = aN (S 1) (23 + 20 * r + 7)
      · subst hjt
        exact ⟨rfl, rfl⟩
      · have hf : (B && allK (tC (S 1) feats r) j) = false := by first | exact hb65 | omega
        have hf2 : (B && allK (tC (S 1) feats r) (aN (S 1) (23 + 20 * r + 7))) = false := by
          cases B with
          | false => rfl
          | true => exact allK_f hk hf
        rw [hf2, ← hf]
        exact ⟨rfl, rfl⟩
    · replace hb65 := bI_n0.mp hb65
      refine xw_bipush (v := nI 8) (pc := 68) dX6_coversNow_68 (by decide +kernel) ?_
      refine xw_iconst (v := nI 3) (pc := 70) dX6_coversNow_70 rfl ?_
      refine xw_iload (pc := 71) dX6_coversNow_71 0 rfl ?_
      refine xn_imul (pc := 73) dX6_coversNow_73 ?_
      refine xn_iadd (pc := 74) dX6_coversNow_74 ?_
      refine xw_istore (l' := [(7, _), (6, _), (5, _), (0, _), (1, _), (2, _), (3, _), (4, _)]) (pc := 75) dX6_coversNow_75 (by decide) rfl ?_
      refine xw_iload (pc := 77) dX6_coversNow_77 7 rfl ?_
      refine xw_aload_n (pc := 79) dX6_coversNow_79 3 rfl ?_
      refine xw_iload_n (pc := 80) dX6_coversNow_80 4 rfl ?_
      refine xw_iload (pc := 81) dX6_coversNow_81 0 rfl ?_
      refine xw_callV (pc := 83) (xr_V (as := [_, _]) ok_X6_of rfl (by decide) q2396 q2398 qs53 (by rw [xtag_with, hM.1]; rfl) (by rw [xtag_with, hM.1]; rfl) dX6_coversNow_83 rfl rfl (Nat.le_of_ble_eq_true rfl)) (SP_X6_ofN hM r (8 + 3 * j) (aN (S 1) (23 + 20 * r + (8 + 3 * j))) (by omega) (by exact (hs (by omega)).1.1)) ?_
      refine xw_callV (pc := 86) (xr_S (as := [_, _]) ok_X6_digitOf rfl (by decide) q2512 q2513 dX6_coversNow_86 rfl rfl (Nat.le_of_ble_eq_true rfl)) (SP_X6_digitOf _ (hs (by omega)).1.2) ?_
      refine xw_aload_n (pc := 89) dX6_coversNow_89 3 rfl ?_
      refine xw_iload_n (pc := 90) dX6_coversNow_90 4 rfl ?_
      refine xw_iload (pc := 91) dX6_coversNow_91 0 rfl ?_
      refine xw_iconst (v := nI 1) (pc := 93) dX6_coversNow_93 rfl ?_
      refine xn_iadd (pc := 94) dX6_coversNow_94 ?_
      refine xw_callV (pc := 95) (xr_V (as := [_, _]) ok_X6_of rfl (by decide) q2396 q2398 qs53 (by rw [xtag_with, hM.1]; rfl) (by rw [xtag_with, hM.1]; rfl) dX6_coversNow_95 rfl rfl (Nat.le_of_ble_eq_true rfl)) (SP_X6_ofN hM r (8 + 3 * j + 1) (aN (S 1) (23 + 20 * r + (8 + 3 * j + 1))) (by omega) (by exact (hs (by omega)).2.1)) ?_
      refine xw_aload_n (pc := 98) dX6_coversNow_98 3 rfl ?_
      refine xw_iload_n (pc := 99) dX6_coversNow_99 4 rfl ?_
      refine xw_iload (pc := 100) dX6_coversNow_100 0 rfl ?_
      refine xw_iconst (v := nI 2) (pc := 102) dX6_coversNow_102 rfl ?_
      refine xn_iadd (pc := 103) dX6_coversNow_103 ?_
      refine xw_callV (pc := 104) (xr_V (as := [_, _]) ok_X6_of rfl (by decide) q2396 q2398 qs53 (by rw [xtag_with, hM.1]; rfl) (by rw [xtag_with, hM.1]; rfl) dX6_coversNow_104 rfl rfl (Nat.le_of_ble_eq_true rfl)) (SP_X6_of hM (r) (((8 + (3 * j)) + 2)) (by omega)) ?_
      refine xw_callV (pc := 107) (xr_S (as := [_, _, _]) ok_X6_fulfils rfl (by decide) q2473 q2474 dX6_coversNow_107 rfl rfl (Nat.le_of_ble_eq_true rfl)) (SP_X6_fulfils _ (hs (by omega)).2.2) ?_
      refine xw_istore (l' := [(5, _), (7, _), (6, _), (0, _), (1, _), (2, _), (3, _), (4, _)]) (pc := 110) dX6_coversNow_110 (by decide) rfl ?_
      refine xw_iinc (v := nI (j + 1)) (l' := [(6, _), (5, _), (7, _), (0, _), (1, _), (2, _), (3, _), (4, _)]) (pc := 112) dX6_coversNow_112 2 rfl (nI_add _ 1) (by decide) rfl ?_
      refine xw_goto (pc := 115) 51 dX6_coversNow_115 rfl ?_
      refine xw_pick (pc := 51) (l' := [(6, _), (5, _), (0, _), (1, _), (2, _), (3, _), (4, _)]) [0, 1, 3, 4, 5, 6, 7] rfl ?_
      have h := ih (j + 1) (by omega) (by omega)
      rw [show (B && allK (tC (S 1) feats r) (j + 1)) = tC (S 1) feats r j from by simp [allK, Bool.and_assoc] at hb65 ⊢; simp [hb65]] at h
      exact h
theorem SP_X6_coversNow {d : Nat} {g : xG} {m : Nat} {S : xMS} (hM : xMod g m) (n rr : Nat) (hn : n ≤ 10) (hr : rr ≤ 16) (hW : WFo (S 1) n) (hWr : WFr (S 1) n rr) (r k : Nat) (hrr : r < rr) (hk : k < n) (day feats : Int32) : XM M_X6_coversNow (d + 2) [.ref m, .int (nI r), .int (nI k), .int day, .int feats] (xWith g m S) (xOne (some (.int (bI (cov (S 1) (S 0 14) k day feats r)))) (xWith g m S)) := by
  obtain ⟨⟨ho, ho2⟩, -, -⟩ := hWr r hrr
  refine xm_of (by decide +kernel) (Nat.le_of_ble_eq_true rfl) ?_
  show XW _ _ 0 [(0, _), (1, _), (2, _), (3, _), (4, _)] [] _ _
  refine xw_iload_n (pc := 0) dX6_coversNow_0 1 rfl ?_
  refine xw_aload_n (pc := 1) dX6_coversNow_1 0 rfl ?_
  refine xm_getI (pc := 2) hM fd_X6_32 dX6_coversNow_2 ?_
  refine xw_icmp_eq (pc := 5) 45 dX6_coversNow_5 rfl (fun hb5 => ?_) (fun hb5 => ?_)
  · refine xw_iconst (v := nI 0) (pc := 45) dX6_coversNow_45 rfl ?_
    refine xw_istore (l' := [(5, _), (0, _), (1, _), (2, _), (3, _), (4, _)]) (pc := 46) dX6_coversNow_46 (by decide) rfl ?_
    refine xw_iconst (v := nI 0) (pc := 48) dX6_coversNow_48 rfl ?_
    refine xw_istore (l' := [(6, _), (5, _), (0, _), (1, _), (2, _), (3, _), (4, _)]) (pc := 49) dX6_coversNow_49 (by decide) rfl ?_
    have h := lp_X6_coversNow (d := d) hM n rr hn hr hWr r hrr (a := nI k) (b := day) (feats := feats) (cvB (S 1) (S 0 14) k day r) 6 0 (by have := (hWr r hrr).2.1.2; omega) (by omega)
    rw [show (cvB (S 1) (S 0 14) k day r && allK (tC (S 1) feats r) 0) = cvB (S 1) (S 0 14) k day r from by simp [allK]] at h
    first
      | (have e : cvB (S 1) (S 0 14) k day r = true := by simp_all [cvB]
         rw [e] at h
         unfold cov
         rw [e]
         exact h)
      | (have e : cvB (S 1) (S 0 14) k day r = false := by simp_all [cvB]
         rw [e] at h
         unfold cov
         rw [e]
         exact h)
  · refine xw_aload_n (pc := 8) dX6_coversNow_8 0 rfl ?_
    refine xw_iload_n (pc := 9) dX6_coversNow_9 2 rfl ?_
    refine xw_aload_n (pc := 10) dX6_coversNow_10 0 rfl ?_
    refine xw_iload_n (pc := 11) dX6_coversNow_11 1 rfl ?_
    refine xw_iconst (v := nI 1) (pc := 12) dX6_coversNow_12 rfl ?_
    refine xw_callV (pc := 13) (xr_V (as := [_, _]) ok_X6_of rfl (by decide) q2396 q2398 qs53 (by rw [xtag_with, hM.1]; rfl) (by rw [xtag_with, hM.1]; rfl) dX6_coversNow_13 rfl rfl (Nat.le_of_ble_eq_true rfl)) (SP_X6_ofN hM r (1) (aN (S 1) (23 + 20 * r + 1)) (by omega) (by exact ho)) ?_
    refine xw_callV (pc := 16) (xr_V (as := [_, _]) ok_X6_within rfl (by decide) q2407 q2409 qs54 (by rw [xtag_with, hM.1]; rfl) (by rw [xtag_with, hM.1]; rfl) dX6_coversNow_16 rfl rfl (Nat.le_of_ble_eq_true rfl)) (SP_X6_within hM (n := n) hW hn k hk (by omega)) ?_
    refine xw_if_eq (pc := 19) 45 dX6_coversNow_19 rfl (fun hb19 => ?_) (fun hb19 => ?_)
    · replace hb19 := bI_0.mp hb19
      refine xw_iconst (v := nI 0) (pc := 45) dX6_coversNow_45 rfl ?_
      refine xw_istore (l' := [(5, _), (0, _), (1, _), (2, _), (3, _), (4, _)]) (pc := 46) dX6_coversNow_46 (by decide) rfl ?_
      refine xw_iconst (v := nI 0) (pc := 48) dX6_coversNow_48 rfl ?_
      refine xw_istore (l' := [(6, _), (5, _), (0, _), (1, _), (2, _), (3, _), (4, _)]) (pc := 49) dX6_coversNow_49 (by decide) rfl ?_
      have h := lp_X6_coversNow (d := d) hM n rr hn hr hWr r hrr (a := nI k) (b := day) (feats := feats) (cvB (S 1) (S 0 14) k day r) 6 0 (by have := (hWr r hrr).2.1.2; omega) (by omega)
      rw [show (cvB (S 1) (S 0 14) k day r && allK (tC (S 1) feats r) 0) = cvB (S 1) (S 0 14) k day r from by simp [allK]] at h
      first
        | (have e : cvB (S 1) (S 0 14) k day r = true := by simp_all [cvB]
           rw [e] at h
           unfold cov
           rw [e]
           exact h)
        | (have e : cvB (S 1) (S 0 14) k day r = false := by simp_all [cvB]
           rw [e] at h
           unfold cov
           rw [e]
           exact h)
    · replace hb19 := bI_n0.mp hb19
      refine xw_iload_n (pc := 22) dX6_coversNow_22 3 rfl ?_
      refine xw_aload_n (pc := 23) dX6_coversNow_23 0 rfl ?_
      refine xw_iload_n (pc := 24) dX6_coversNow_24 1 rfl ?_
      refine xw_iconst (v := nI 3) (pc := 25) dX6_coversNow_25 rfl ?_
      refine xw_callV (pc := 26) (xr_V (as := [_, _]) ok_X6_of rfl (by decide) q2396 q2398 qs53 (by rw [xtag_with, hM.1]; rfl) (by rw [xtag_with, hM.1]; rfl) dX6_coversNow_26 rfl rfl (Nat.le_of_ble_eq_true rfl)) (SP_X6_of hM (r) (3) (by omega)) ?_
      refine xw_aload_n (pc := 29) dX6_coversNow_29 0 rfl ?_
      refine xw_iload_n (pc := 30) dX6_coversNow_30 1 rfl ?_
      refine xw_iconst (v := nI 4) (pc := 31) dX6_coversNow_31 rfl ?_
      refine xw_callV (pc := 32) (xr_V (as := [_, _]) ok_X6_of rfl (by decide) q2396 q2398 qs53 (by rw [xtag_with, hM.1]; rfl) (by rw [xtag_with, hM.1]; rfl) dX6_coversNow_32 rfl rfl (Nat.le_of_ble_eq_true rfl)) (SP_X6_of hM (r) (4) (by omega)) ?_
      refine xw_callV (pc := 35) (xr_S (as := [_, _, _]) ok_X6_in rfl (by decide) q2364 q2365 dX6_coversNow_35 rfl rfl (Nat.le_of_ble_eq_true rfl)) (SP_X6_in) ?_
      refine xw_if_eq (pc := 38) 45 dX6_coversNow_38 rfl (fun hb38 => ?_) (fun hb38 => ?_)
      · replace hb38 := bI_0.mp hb38
        refine xw_iconst (v := nI 0) (pc := 45) dX6_coversNow_45 rfl ?_
        refine xw_istore (l' := [(5, _), (0, _), (1, _), (2, _), (3, _), (4, _)]) (pc := 46) dX6_coversNow_46 (by decide) rfl ?_
        refine xw_iconst (v := nI 0) (pc := 48) dX6_coversNow_48 rfl ?_
        refine xw_istore (l' := [(6, _), (5, _), (0, _), (1, _), (2, _), (3, _), (4, _)]) (pc := 49) dX6_coversNow_49 (by decide) rfl ?_
        have h := lp_X6_coversNow (d := d) hM n rr hn hr hWr r hrr (a := nI k) (b := day) (feats := feats) (cvB (S 1) (S 0 14) k day r) 6 0 (by have := (hWr r hrr).2.1.2; omega) (by omega)
        rw [show (cvB (S 1) (S 0 14) k day r && allK (tC (S 1) feats r) 0) = cvB (S 1) (S 0 14) k day r from by simp [allK]] at h
        first
          | (have e : cvB (S 1) (S 0 14) k day r = true := by simp_all [cvB]
             rw [e] at h
             unfold cov
             rw [e]
             exact h)
          | (have e : cvB (S 1) (S 0 14) k day r = false := by simp_all [cvB]
             rw [e] at h
             unfold cov
             rw [e]
             exact h)
      · replace hb38 := bI_n0.mp hb38
        refine xw_iconst (v := nI 1) (pc := 41) dX6_coversNow_41 rfl ?_
        refine xw_goto (pc := 42) 46 dX6_coversNow_42 rfl ?_
        refine xw_istore (l' := [(5, _), (0, _), (1, _), (2, _), (3, _), (4, _)]) (pc := 46) dX6_coversNow_46 (by decide) rfl ?_
        refine xw_iconst (v := nI 0) (pc := 48) dX6_coversNow_48 rfl ?_
        refine xw_istore (l' := [(6, _), (5, _), (0, _), (1, _), (2, _), (3, _), (4, _)]) (pc := 49) dX6_coversNow_49 (by decide) rfl ?_
        have h := lp_X6_coversNow (d := d) hM n rr hn hr hWr r hrr (a := nI k) (b := day) (feats := feats) (cvB (S 1) (S 0 14) k day r) 6 0 (by have := (hWr r hrr).2.1.2; omega) (by omega)
        rw [show (cvB (S 1) (S 0 14) k day r && allK (tC (S 1) feats r) 0) = cvB (S 1) (S 0 14) k day r from by simp [allK]] at h
        first
          | (have e : cvB (S 1) (S 0 14) k day r = true := by simp_all [cvB]
             rw [e] at h
             unfold cov
             rw [e]
             exact h)
          | (have e : cvB (S 1) (S 0 14) k day r = false := by simp_all [cvB]
             rw [e] at h
             unfold cov
             rw [e]
             exact h)
/-- what holds, from the covering ones: by fuel -/
def hF (P : Nat → Nat → Bool) (n : Nat) (C : Nat → Bool) : Nat → Nat → Bool
  | 0, _ => false
  | f + 1, r => C r && !anyK (fun i => P (r + 1 + i) r && hF P n C f (r + 1 + i)) (n - r - 1)
theorem anyK_c {P Q : Nat → Bool} {k : Nat} (h : ∀ i, i < k → P i = Q i) : anyK P k = anyK Q k := by
  induction k with
  | zero => rfl
  | succ k ih => rw [anyK, anyK, ih (fun i hi => h i (by omega)), h k (by omega)]
theorem hF_fuel {P : Nat → Nat → Bool} {n : Nat} {C : Nat → Bool} : ∀ (f f' r : Nat), r < n → n - r ≤ f → n - r ≤ f' → hF P n C f r = hF P n C f' r := by
  intro f
  induction f with
  | zero => intro f' r h1 h2; omega
  | succ f ih =>
    intro f' r h1 h2 h3
    obtain ⟨c, rfl⟩ : ∃ c, f' = c + 1 := ⟨f' - 1, by omega⟩
    rw [hF, hF]
    refine congrArg (fun x => C r && !x) (anyK_c fun i hi => ?_)
    rw [ih c (r + 1 + i) (by omega) (by omega) (by omega)]
/-- whether the rule r holds, where C covers and P says who is an exception of whom -/
def hld (P : Nat → Nat → Bool) (n : Nat) (C : Nat → Bool) (r : Nat) : Bool := hF P n C n r
theorem hld_eq {P : Nat → Nat → Bool} {n : Nat} {C : Nat → Bool} {r : Nat} (h : r < n) : hld P n C r = (C r && !anyK (fun i => P (r + 1 + i) r && hld P n C (r + 1 + i)) (n - r - 1)) := by
  unfold hld
  obtain ⟨c, rfl⟩ : ∃ c, n = c + 1 := ⟨n - 1, by omega⟩
  rw [hF]
  refine congrArg (fun x => C r && !x) (anyK_c fun i hi => ?_)
  rw [hF_fuel c (c + 1) (r + 1 + i) (by omega) (by omega) (by omega)]
def isPa (s : Nat → Int32) (x r : Nat) : Bool := decide (s (23 + 20 * x + 5) = nI r)
/-- the looked-at rows from a on -/
def lookP (S : xMS) (C H : Nat → Bool) (a n : Nat) : xMS := fun p j => if p = 6 ∧ a ≤ j ∧ j < n then bI (C j) else if p = 7 ∧ a ≤ j ∧ j < n then bI (H j) else S p j
theorem lookP_q {S : xMS} {C H : Nat → Bool} {a n q : Nat} (h6 : q ≠ 6) (h7 : q ≠ 7) : lookP S C H a n q = S q := by
  funext j
  unfold lookP
  rw [if_neg (fun e => h6 e.1), if_neg (fun e => h7 e.1)]
theorem lookP_6 {S : xMS} {C H : Nat → Bool} {a n j : Nat} (h1 : a ≤ j) (h2 : j < n) : lookP S C H a n 6 j = bI (C j) := by
  unfold lookP
  rw [if_pos ⟨rfl, h1, h2⟩]
theorem lookP_7 {S : xMS} {C H : Nat → Bool} {a n j : Nat} (h1 : a ≤ j) (h2 : j < n) : lookP S C H a n 7 j = bI (H j) := by
  unfold lookP
  rw [if_neg (fun e => absurd e.1 (by decide)), if_pos ⟨rfl, h1, h2⟩]
theorem lookP_S {S : xMS} {C H : Nat → Bool} {r n : Nat} (h : r < n) : mset (mset (lookP S C H (r + 1) n) 6 r (bI (C r))) 7 r (bI (H r)) = lookP S C H r n := by
  funext p j
  unfold mset lookP
  by_cases hp6 : p = 6
  · subst hp6
    by_cases hj : j = r
    · subst hj
      rw [if_neg (by omega), if_pos ⟨rfl, rfl⟩, if_pos ⟨rfl, by omega, by omega⟩]
    · rw [if_neg (by omega), if_neg (fun e => hj e.2)]
      by_cases hb : r + 1 ≤ j ∧ j < n
      · rw [if_pos ⟨rfl, hb⟩, if_pos ⟨rfl, by omega, hb.2⟩]
      · rw [if_neg (fun e => hb e.2), if_neg (by omega), if_neg (by omega), if_neg (by omega)]
  · by_cases hp7 : p = 7
    · subst hp7
      by_cases hj : j = r
      · subst hj
        rw [if_pos ⟨rfl, rfl⟩, if_neg (by omega), if_pos ⟨rfl, by omega, by omega⟩]
      · rw [if_neg (fun e => hj e.2), if_neg (by omega), if_neg (by omega)]
        by_cases hb : r + 1 ≤ j ∧ j < n
        · rw [if_pos ⟨rfl, hb⟩, if_neg (by omega), if_pos ⟨rfl, by omega, hb.2⟩]
        · rw [if_neg (fun e => hb e.2), if_neg (by omega), if_neg (by omega)]
    · rw [if_neg (fun e => hp7 e.1), if_neg (fun e => hp6 e.1), if_neg (fun e => hp6 e.1), if_neg (fun e => hp7 e.1), if_neg (fun e => hp6 e.1), if_neg (fun e => hp7 e.1)]
theorem mset_m {S : xMS} {p j : Nat} {v w : Int32} : mset (mset S p j v) p j w = mset S p j w := by
  funext q i
  unfold mset
  split <;> rfl
theorem SP_X6_coversC {d : Nat} {g : xG} {m : Nat} {S : xMS} (hM : xMod g m) (n rr : Nat) (hn : n ≤ 10) (hr : rr ≤ 16) (hW : WFo (S 1) n) (hWr : WFr (S 1) n rr) (r k : Nat) (hrr : r < rr) (hk : k < n) (day feats : Int32) (c : Bool) (hc : cov (S 1) (S 0 14) k day feats r = c) : XM M_X6_coversNow (d + 2) [.ref m, .int (nI r), .int (nI k), .int day, .int feats] (xWith g m S) (xOne (some (.int (bI c))) (xWith g m S)) := by
  rw [← hc]
  exact SP_X6_coversNow hM n rr hn hr hW hWr r k hrr hk day feats
/-- the inner loop's state -/
def lkT (S : xMS) (C H : Nat → Bool) (rr r i : Nat) : xMS := mset (mset (lookP S C H (r + 1) rr) 6 r (bI (C r))) 7 r (bI (C r && !anyK (fun i => isPa (S 1) (r + 1 + i) r && H (r + 1 + i)) i))
theorem lkT_1 {S : xMS} {C H : Nat → Bool} {rr r i : Nat} : lkT S C H rr r i 1 = S 1 := by
  unfold lkT
  rw [mset_q (by decide), mset_q (by decide), lookP_q (by decide) (by decide)]
theorem lkT_7 {S : xMS} {C H : Nat → Bool} {rr r i x : Nat} (h : x < rr) (h2 : r < x) : lkT S C H rr r i 7 x = bI (H x) := by
  unfold lkT
  rw [mset_s, if_neg (by omega), mset_q (by decide), lookP_7 (by omega) h]
theorem lkT_r {S : xMS} {C H : Nat → Bool} {rr r i : Nat} : lkT S C H rr r i 7 r = bI (C r && !anyK (fun i => isPa (S 1) (r + 1 + i) r && H (r + 1 + i)) i) := by
  unfold lkT
  rw [mset_s, if_pos rfl]
theorem lkT_s {S : xMS} {C H : Nat → Bool} {rr r i : Nat} {b : Bool} (h : (C r && !anyK (fun i => isPa (S 1) (r + 1 + i) r && H (r + 1 + i)) (i + 1)) = b) : mset (lkT S C H rr r i) 7 r (bI b) = lkT S C H rr r (i + 1) := by
  unfold lkT
  rw [mset_m, h]
theorem lp2_X6_look {d : Nat} {g : xG} {m : Nat} {S : xMS} (hM : xMod g m) {Q : Option Value ⊕ Nat → xG → Prop} (rr r : Nat) (hr : rr ≤ 16) (hrr : r < rr) (h1 : S 1 1 = nI rr) (C H : Nat → Bool) {a b c : Int32} (hq : XW M_X6_look (d + 3) 112 [(5, .int (nI rr)), (4, .int (nI r)), (0, .ref m), (1, .int a), (2, .int b), (3, .int c)] [] (xWith g m (lkT S C H rr r (rr - r - 1))) Q) : ∀ (j i : Nat), rr - r - 1 - i < j → i ≤ rr - r - 1 → XW M_X6_look (d + 3) 51 [(5, .int (nI (r + 1 + i))), (4, .int (nI r)), (0, .ref m), (1, .int a), (2, .int b), (3, .int c)] [] (xWith g m (lkT S C H rr r i)) Q := by
  intro j
  induction j with
  | zero => intro r h; omega
  | succ j ih =>
  intro i hj hi
  refine xw_iload (pc := 51) dX6_look_51 0 rfl ?_
  refine xw_aload_n (pc := 53) dX6_look_53 2 rfl ?_
  refine xm_get (p := 1) (pc := 54) hM fd_X6_9 dX6_look_54 rfl ?_
  refine xw_iconst (v := nI 1) (pc := 57) dX6_look_57 rfl ?_
  refine xm_ialdN (v := rr) (pc := 58) hM dX6_look_58 rfl (by omega) (by rw [lkT_1]; exact h1) ?_
  refine xw_icmp_ge (pc := 59) 112 dX6_look_59 rfl (fun hb59 => ?_) (fun hb59 => ?_)
  · replace hb59 : rr ≤ r + 1 + i := (nI_leI (a := rr) (b := r + 1 + i) (by omega) (by omega)).mp hb59
    obtain rfl : i = rr - r - 1 := by omega
    rw [show nI rr = nI (r + 1 + (rr - r - 1)) from congrArg nI (by omega)] at hq
    exact hq
  · replace hb59 : ¬ (rr ≤ r + 1 + i) := mt (nI_leI (a := rr) (b := r + 1 + i) (by omega) (by omega)).mpr hb59
    refine xw_aload_n (pc := 62) dX6_look_62 2 rfl ?_
    refine xm_get (p := 7) (pc := 63) hM fd_X6_29 dX6_look_63 rfl ?_
    refine xw_iload (pc := 66) dX6_look_66 1 rfl ?_
    refine xw_aload_n (pc := 68) dX6_look_68 2 rfl ?_
    refine xm_get (p := 7) (pc := 69) hM fd_X6_29 dX6_look_69 rfl ?_
    refine xw_iload (pc := 72) dX6_look_72 1 rfl ?_
    refine xm_zaldB (b := C r && !anyK (fun i => isPa (S 1) (r + 1 + i) r && H (r + 1 + i)) i) (pc := 74) hM dX6_look_74 rfl (by omega) (by exact lkT_r) ?_
    refine xw_if_eq (pc := 75) 104 dX6_look_75 rfl (fun hb75 => ?_) (fun hb75 => ?_)
    · replace hb75 := bI_0.mp hb75
      refine xw_iconst (v := nI 0) (pc := 104) dX6_look_104 rfl ?_
      refine xm_zast (b := false) (pc := 105) hM dX6_look_105 rfl (by omega) ?_
      refine xw_iinc (v := nI (r + 1 + i + 1)) (l' := [(5, _), (4, _), (0, _), (1, _), (2, _), (3, _)]) (pc := 106) dX6_look_106 0 rfl (nI_add _ 1) (by decide) rfl ?_
      refine xw_goto (pc := 109) 51 dX6_look_109 rfl ?_
      have h := ih (i + 1) (by omega) (by omega)
      try simp only [lkT_1] at *
      first
        | (rw [lkT_s (b := true) (by simp_all [anyK, isPa])]; exact h)
        | (rw [lkT_s (b := false) (by simp_all [anyK, isPa])]; exact h)
    · replace hb75 := bI_n0.mp hb75
      refine xw_aload_n (pc := 78) dX6_look_78 2 rfl ?_
      refine xw_iload (pc := 79) dX6_look_79 0 rfl ?_
      refine xw_iconst (v := nI 5) (pc := 81) dX6_look_81 rfl ?_
      refine xw_callV (pc := 82) (xr_V (as := [_, _]) ok_X6_of rfl (by decide) q2396 q2398 qs53 (by rw [xtag_with, hM.1]; rfl) (by rw [xtag_with, hM.1]; rfl) dX6_look_82 rfl rfl (Nat.le_of_ble_eq_true rfl)) (SP_X6_of hM (r + 1 + i) (5) (by omega)) ?_
      refine xw_iload (pc := 85) dX6_look_85 1 rfl ?_
      refine xw_icmp_ne (pc := 87) 100 dX6_look_87 rfl (fun hb87 => ?_) (fun hb87 => ?_)
      · refine xw_iconst (v := nI 1) (pc := 100) dX6_look_100 rfl ?_
        refine xw_goto (pc := 101) 105 dX6_look_101 rfl ?_
        refine xm_zast (b := true) (pc := 105) hM dX6_look_105 rfl (by omega) ?_
        refine xw_iinc (v := nI (r + 1 + i + 1)) (l' := [(5, _), (4, _), (0, _), (1, _), (2, _), (3, _)]) (pc := 106) dX6_look_106 0 rfl (nI_add _ 1) (by decide) rfl ?_
        refine xw_goto (pc := 109) 51 dX6_look_109 rfl ?_
        have h := ih (i + 1) (by omega) (by omega)
        try simp only [lkT_1] at *
        first
          | (rw [lkT_s (b := true) (by simp_all [anyK, isPa])]; exact h)
          | (rw [lkT_s (b := false) (by simp_all [anyK, isPa])]; exact h)
      · refine xw_aload_n (pc := 90) dX6_look_90 2 rfl ?_
        refine xm_get (p := 7) (pc := 91) hM fd_X6_29 dX6_look_91 rfl ?_
        refine xw_iload (pc := 94) dX6_look_94 0 rfl ?_
        refine xm_zaldB (b := H (r + 1 + i)) (pc := 96) hM dX6_look_96 rfl (by omega) (by exact lkT_7 (by omega) (by omega)) ?_
        refine xw_if_ne (pc := 97) 104 dX6_look_97 rfl (fun hb97 => ?_) (fun hb97 => ?_)
        · replace hb97 := bI_n0.mp hb97
          refine xw_iconst (v := nI 0) (pc := 104) dX6_look_104 rfl ?_
          refine xm_zast (b := false) (pc := 105) hM dX6_look_105 rfl (by omega) ?_
          refine xw_iinc (v := nI (r + 1 + i + 1)) (l' := [(5, _), (4, _), (0, _), (1, _), (2, _), (3, _)]) (pc := 106) dX6_look_106 0 rfl (nI_add _ 1) (by decide) rfl ?_
          refine xw_goto (pc := 109) 51 dX6_look_109 rfl ?_
          have h := ih (i + 1) (by omega) (by omega)
          try simp only [lkT_1] at *
          first
            | (rw [lkT_s (b := true) (by simp_all [anyK, isPa])]; exact h)
            | (rw [lkT_s (b := false) (by simp_all [anyK, isPa])]; exact h)
        · replace hb97 := bI_0.mp hb97
          refine xw_iconst (v := nI 1) (pc := 100) dX6_look_100 rfl ?_
          refine xw_goto (pc := 101) 105 dX6_look_101 rfl ?_
          refine xm_zast (b := true) (pc := 105) hM dX6_look_105 rfl (by omega) ?_
          refine xw_iinc (v := nI (r + 1 + i + 1)) (l' := [(5, _), (4, _), (0, _), (1, _), (2, _), (3, _)]) (pc := 106) dX6_look_106 0 rfl (nI_add _ 1) (by decide) rfl ?_
          refine xw_goto (pc := 109) 51 dX6_look_109 rfl ?_
          have h := ih (i + 1) (by omega) (by omega)
          try simp only [lkT_1] at *
          first
            | (rw [lkT_s (b := true) (by simp_all [anyK, isPa])]; exact h)
            | (rw [lkT_s (b := false) (by simp_all [anyK, isPa])]; exact h)
theorem lp1_X6_look {d : Nat} {g : xG} {m : Nat} {S : xMS} (hM : xMod g m) (n rr k : Nat) (hn : n ≤ 10) (hr : rr ≤ 16) (hk : k < n) (h1 : S 1 1 = nI rr) (hW : WFo (S 1) n) (hWr : WFr (S 1) n rr) (day feats : Int32) (C H : Nat → Bool) (hC : C = cov (S 1) (S 0 14) k day feats) (hH : H = hld (isPa (S 1)) rr C) : ∀ (a : Nat) (v : Int32), a ≤ rr → v = nI a - nI 1 → XW M_X6_look (d + 3) 10 [(4, .int v), (0, .ref m), (1, .int (nI k)), (2, .int day), (3, .int feats)] [] (xWith g m (lookP S C H a rr)) (xOne none (xWith g m (lookP S C H 0 rr))) := by
  intro a
  induction a with
  | zero =>
    intro v ha hv
    refine xw_iload (pc := 10) dX6_look_10 0 rfl ?_
    refine xw_if_lt (pc := 12) 118 dX6_look_12 rfl (fun hb12 => ?_) (fun hb12 => ?_)
    rotate_left
    · exfalso
      rw [hv] at hb12
      exact hb12 (by decide)
    refine xw_vret (pc := 118) dX6_look_118 rfl ?_
    exact ⟨rfl, rfl⟩
  | succ r ih =>
    intro v ha hv
    rw [show nI (r + 1) - nI 1 = nI r from nI_pred r] at hv
    subst hv
    have e1 : (lookP S C H (r + 1) rr) 1 = S 1 := lookP_q (by decide) (by decide)
    have e0 : (lookP S C H (r + 1) rr) 0 = S 0 := lookP_q (by decide) (by decide)
    refine xw_iload (pc := 10) dX6_look_10 0 rfl ?_
    refine xw_if_lt (pc := 12) 118 dX6_look_12 rfl (fun hb12 => ?_) (fun hb12 => ?_)
    · exfalso
      replace hb12 : r < 0 := (nI_ltI (a := r) (b := 0) (by omega) (by omega)).mp hb12
      omega
    replace hb12 : ¬ (r < 0) := mt (nI_ltI (a := r) (b := 0) (by omega) (by omega)).mpr hb12
    refine xw_aload_n (pc := 15) dX6_look_15 1 rfl ?_
    refine xm_get (p := 6) (pc := 16) hM fd_X6_25 dX6_look_16 rfl ?_
    refine xw_iload (pc := 19) dX6_look_19 0 rfl ?_
    refine xw_aload_n (pc := 21) dX6_look_21 1 rfl ?_
    refine xw_iload (pc := 22) dX6_look_22 0 rfl ?_
    refine xw_iload_n (pc := 24) dX6_look_24 2 rfl ?_
    refine xw_iload_n (pc := 25) dX6_look_25 3 rfl ?_
    refine xw_iload_n (pc := 26) dX6_look_26 4 rfl ?_
    refine xw_callV (pc := 27) (xr_V (as := [_, _, _, _]) ok_X6_coversNow rfl (by decide) q2508 q2510 qs68 (by rw [xtag_with, hM.1]; rfl) (by rw [xtag_with, hM.1]; rfl) dX6_look_27 rfl rfl (Nat.le_of_ble_eq_true rfl)) (SP_X6_coversC hM n rr hn hr (by rw [e1]; exact hW) (by rw [e1]; exact hWr) r k (by omega) hk day feats (C r) (by rw [e1, e0, hC])) ?_
    refine xm_zast (pc := 30) hM dX6_look_30 rfl (by omega) ?_
    refine xw_aload_n (pc := 31) dX6_look_31 1 rfl ?_
    refine xm_get (p := 7) (pc := 32) hM fd_X6_29 dX6_look_32 rfl ?_
    refine xw_iload (pc := 35) dX6_look_35 0 rfl ?_
    refine xw_aload_n (pc := 37) dX6_look_37 1 rfl ?_
    refine xm_get (p := 6) (pc := 38) hM fd_X6_25 dX6_look_38 rfl ?_
    refine xw_iload (pc := 41) dX6_look_41 0 rfl ?_
    refine xm_zaldB (b := C r) (pc := 43) hM dX6_look_43 rfl (by omega) (by rw [mset_s, if_pos rfl]) ?_
    refine xm_zast (pc := 44) hM dX6_look_44 rfl (by omega) ?_
    refine xw_iload (pc := 45) dX6_look_45 0 rfl ?_
    refine xw_iconst (v := nI 1) (pc := 47) dX6_look_47 rfl ?_
    refine xn_iadd (pc := 48) dX6_look_48 ?_
    refine xw_istore (l' := [(5, _), (4, _), (0, _), (1, _), (2, _), (3, _)]) (pc := 49) dX6_look_49 (by decide) rfl ?_
    have h := lp2_X6_look (d := d) (S := S) (a := nI k) (b := day) (c := feats) hM rr r hr (by omega) h1 C H (Q := xOne none (xWith g m (lookP S C H 0 rr))) ?_ (rr + 1) 0 (by omega) (by omega)
    · rw [show lkT S C H rr r 0 = mset (mset (lookP S C H (r + 1) rr) 6 r (bI (C r))) 7 r (bI (C r)) from by unfold lkT; simp [anyK]] at h
      exact h
    have e9 : lkT S C H rr r (rr - r - 1) = lookP S C H r rr := by
      unfold lkT
      rw [show (C r && !anyK (fun i => isPa (S 1) (r + 1 + i) r && H (r + 1 + i)) (rr - r - 1)) = H r from by rw [hH]; exact (hld_eq (by omega)).symm]
      exact lookP_S (by omega)
    rw [e9]
    refine xw_iinc (l' := [(4, _), (5, _), (0, _), (1, _), (2, _), (3, _)]) (pc := 112) dX6_look_112 1 rfl rfl (by decide) rfl ?_
    refine xw_goto (pc := 115) 10 dX6_look_115 rfl ?_
    refine xw_pick (pc := 10) (l' := [(4, _), (0, _), (1, _), (2, _), (3, _)]) [0, 2, 3, 4, 5] rfl ?_
    exact ih _ (by omega) (by rw [Int32.sub_eq_add_neg]; rfl)
theorem SP_X6_look {d : Nat} {g : xG} {m : Nat} {S : xMS} (hM : xMod g m) (n rr k : Nat) (hn : n ≤ 10) (hr : rr ≤ 16) (hk : k < n) (h1 : S 1 1 = nI rr) (hW : WFo (S 1) n) (hWr : WFr (S 1) n rr) (day feats : Int32) (C H : Nat → Bool) (hC : C = cov (S 1) (S 0 14) k day feats) (hH : H = hld (isPa (S 1)) rr C) : XM M_X6_look (d + 3) [.ref m, .int (nI k), .int day, .int feats] (xWith g m S) (xOne none (xWith g m (lookP S C H 0 rr))) := by
  have hz : xWith g m S = xWith g m (lookP S C H rr rr) := congrArg _ (by
    funext p j
    unfold lookP
    rw [if_neg (by omega), if_neg (by omega)])
  refine xm_of (by decide +kernel) (Nat.le_of_ble_eq_true rfl) ?_
  show XW _ _ 0 [(0, _), (1, _), (2, _), (3, _)] [] _ _
  refine xw_aload_n (pc := 0) dX6_look_0 0 rfl ?_
  refine xm_get (p := 1) (pc := 1) hM fd_X6_9 dX6_look_1 rfl ?_
  refine xw_iconst (v := nI 1) (pc := 4) dX6_look_4 rfl ?_
  refine xm_iald (pc := 5) hM dX6_look_5 rfl (by omega) ?_
  refine xw_iconst (v := nI 1) (pc := 6) dX6_look_6 rfl ?_
  refine xw_isub (pc := 7) dX6_look_7 ?_
  refine xw_istore (l' := [(4, _), (0, _), (1, _), (2, _), (3, _)]) (pc := 8) dX6_look_8 (by decide) rfl ?_
  rw [hz]
  exact lp1_X6_look hM n rr k hn hr hk h1 hW hWr day feats C H hC hH rr _ (Nat.le_refl _) (by rw [h1])
