/-! MODEL 1: leaves of the reference -/
set_option maxRecDepth 100000
theorem xnB (b : Bool) : narrow .boolean (.int (bI b)) = .int (bI b) := by cases b <;> rfl
theorem xfB (b : Bool) : fits .boolean (.int (bI b)) = true := by cases b <;> rfl
theorem nI1 : nI 1 = bI true := rfl
theorem nI0 : nI 0 = bI false := rfl
def inR (v lo hi : Int32) : Bool := !decide (v < lo) && !decide (hi < v)
/-- how many of the first k have P -/
def cntB (P : Nat → Bool) : Nat → Nat
  | 0 => 0
  | k + 1 => cntB P k + (if P k = true then 1 else 0)
theorem cntB_t {P : Nat → Bool} {k : Nat} (h : P k = true) : cntB P (k + 1) = cntB P k + 1 := by simp [cntB, h]
theorem cntB_f {P : Nat → Bool} {k : Nat} (h : P k = false) : cntB P (k + 1) = cntB P k + 0 := by simp [cntB, h]
theorem cntB_le (P : Nat → Bool) (k : Nat) : cntB P k ≤ k := by
  induction k with
  | zero => exact Nat.le_refl _
  | succ k ih => simp only [cntB]; split <;> omega
/-- outer scope, in the row s -/
def ou (s : Nat → Int32) (k : Nat) : Nat := (s (3 + 2 * k)).toNatClampNeg
/-- the scopes' row is well laid -/
def WFo (s : Nat → Int32) (n : Nat) : Prop := s 3 = -1 ∧ ∀ k, 0 < k → k < n → s (3 + 2 * k) = nI (ou s k) ∧ ou s k < k
def dep (s : Nat → Int32) (k : Nat) : Nat := if h : 0 < k ∧ ou s k < k then dep s (ou s k) + 1 else 0
termination_by k
decreasing_by exact h.2
def wit (s : Nat → Int32) (k o : Nat) : Bool := if k = o then true else if h : 0 < k ∧ ou s k < k then wit s (ou s k) o else false
termination_by k
decreasing_by exact h.2
def dfl (s : Nat → Int32) (k : Nat) : Int32 := if h : s (4 + 2 * k) < 0 ∧ 0 < k ∧ ou s k < k then dfl s (ou s k) else s (4 + 2 * k)
termination_by k
decreasing_by exact h.2.2
theorem dep_le (s : Nat → Int32) (k : Nat) : dep s k ≤ k := by
  induction k using Nat.strongRecOn with
  | _ k ih =>
    rw [dep]
    split
    · rename_i h
      have := ih _ h.2
      omega
    · omega
theorem wit_lt (s : Nat → Int32) (k o : Nat) (h : k < o) : wit s k o = false := by
  induction k using Nat.strongRecOn with
  | _ k ih =>
    rw [wit, if_neg (by omega)]
    split
    · rename_i h2
      exact ih _ h2.2 (by omega)
    · rfl
def parN (s : Nat → Int32) (r : Nat) : Nat := (s (28 + 20 * r)).toNatClampNeg
/-- the rule r has a parent that's below it, or none -/
def WFp (s : Nat → Int32) (n : Nat) : Prop := ∀ r, r < n → s (28 + 20 * r) = -1 ∨ (s (28 + 20 * r) = nI (parN s r) ∧ parN s r < r)
def rdep (s : Nat → Int32) (r : Nat) : Nat := if h : 0 ≤ s (28 + 20 * r) ∧ parN s r < r then rdep s (parN s r) + 1 else 0
termination_by r
decreasing_by exact h.2
theorem rdep_le (s : Nat → Int32) (k : Nat) : rdep s k ≤ k := by
  induction k using Nat.strongRecOn with
  | _ k ih =>
    rw [rdep]
    split
    · rename_i h
      have := ih _ h.2
      omega
    · omega
def chg (S : xMS) (p : Nat) : xMS := if p = 8 then mset (mcpy (mset (mcpy S 4 4 391 0 2737) 0 5 (nI 7)) 2 4 0 (391 * 7) 391) 0 5 (nI 8) else mset (mcpy S 2 4 0 (391 * p) 391) 0 5 (nI (p + 1))
def mtest (S : xMS) (k : Nat) (f g d : Int32) : xMS := mset (mset (mset (mset S 5 (3 * k) f) 5 (3 * k + 1) g) 5 (3 * k + 2) d) 0 11 (nI (k + 1))
def fulf (v : Int32) (g : Nat) (d : Int32) : Bool := match g with
  | 0 => decide (v = d)
  | 1 => decide (v < d)
  | 2 => decide (d < v)
  | _ => !decide (v = d)
def divs : Nat → Int32 → Int32
  | 0, v => v
  | k + 1, v => divs k (v / nI 10)
def dig (v : Int32) (f : Nat) : Int32 := divs (5 - f) v - divs (5 - f) v / nI 10 * nI 10
theorem m1lt {n : Nat} (h : n < 2 ^ 31) : ¬ nI n < 0 := nI_pos h
theorem neg1lt : (-1 : Int32) < 0 := by decide
theorem SP_X6_in {d : Nat} {g : xG} {v lo hi : Int32} : XM M_X6_in (d) [.int v, .int lo, .int hi] (g) (xOne (some (.int (bI (inR v lo hi)))) (g)) := by
  refine xm_of (by decide +kernel) (Nat.le_of_ble_eq_true rfl) ?_
  show XW _ _ 0 [(0, _), (1, _), (2, _)] [] _ _
  refine xw_iload_n (pc := 0) dX6_in_0 0 rfl ?_
  refine xw_iload_n (pc := 1) dX6_in_1 1 rfl ?_
  refine xw_icmp_lt (pc := 2) 14 dX6_in_2 rfl (fun hb2 => ?_) (fun hb2 => ?_)
  · refine xw_iconst (v := nI 0) (pc := 14) dX6_in_14 rfl ?_
    refine xw_iret (pc := 15) .boolean dX6_in_15 rfl ?_ 
    refine ⟨congrArg (fun x => Sum.inl (some (Value.int x))) ?_, rfl⟩
    simp [inR, nI1, nI0, *]
  · refine xw_iload_n (pc := 5) dX6_in_5 0 rfl ?_
    refine xw_iload_n (pc := 6) dX6_in_6 2 rfl ?_
    refine xw_icmp_gt (pc := 7) 14 dX6_in_7 rfl (fun hb7 => ?_) (fun hb7 => ?_)
    · refine xw_iconst (v := nI 0) (pc := 14) dX6_in_14 rfl ?_
      refine xw_iret (pc := 15) .boolean dX6_in_15 rfl ?_ 
      refine ⟨congrArg (fun x => Sum.inl (some (Value.int x))) ?_, rfl⟩
      simp [inR, nI1, nI0, *]
    · refine xw_iconst (v := nI 1) (pc := 10) dX6_in_10 rfl ?_
      refine xw_goto (pc := 11) 15 dX6_in_11 rfl ?_
      refine xw_iret (pc := 15) .boolean dX6_in_15 rfl ?_ 
      refine ⟨congrArg (fun x => Sum.inl (some (Value.int x))) ?_, rfl⟩
      simp [inR, nI1, nI0, *]

theorem SP_X6_thrown {d : Nat} {g : xG} {m : Nat} {S : xMS} (hM : xMod g m) : XM M_X6_thrown (d) [.ref m] (xWith g m S) (xOne (some (.int (S 0 6))) (xWith g m S)) := by
  refine xm_of (by decide +kernel) (Nat.le_of_ble_eq_true rfl) ?_
  show XW _ _ 0 [(0, _)] [] _ _
  refine xw_aload_n (pc := 0) dX6_thrown_0 0 rfl ?_
  refine xm_getI (pc := 1) hM fd_X6_62 dX6_thrown_1 ?_
  refine xw_iret (pc := 4) .int dX6_thrown_4 rfl ?_ 
  exact ⟨rfl, rfl⟩

theorem SP_X6_at {d : Nat} {g : xG} (r : Nat) : XM M_X6_at (d) [.int (nI r)] (g) (xOne (some (.int (nI (23 + 20 * r)))) (g)) := by
  refine xm_of (by decide +kernel) (Nat.le_of_ble_eq_true rfl) ?_
  show XW _ _ 0 [(0, _)] [] _ _
  refine xw_bipush (v := nI 23) (pc := 0) dX6_at_0 (by decide +kernel) ?_
  refine xw_bipush (v := nI 20) (pc := 2) dX6_at_2 (by decide +kernel) ?_
  refine xw_iload_n (pc := 4) dX6_at_4 0 rfl ?_
  refine xn_imul (pc := 5) dX6_at_5 ?_
  refine xn_iadd (pc := 6) dX6_at_6 ?_
  refine xw_iret (pc := 7) .int dX6_at_7 rfl ?_ 
  exact ⟨rfl, rfl⟩

theorem SP_X6_of {d : Nat} {g : xG} {m : Nat} {S : xMS} (hM : xMod g m) (r w : Nat) (hr : 23 + 20 * r + w < 391) : XM M_X6_of (d + 1) [.ref m, .int (nI r), .int (nI w)] (xWith g m S) (xOne (some (.int (S 1 (23 + 20 * r + w)))) (xWith g m S)) := by
  refine xm_of (by decide +kernel) (Nat.le_of_ble_eq_true rfl) ?_
  show XW _ _ 0 [(0, _), (1, _), (2, _)] [] _ _
  refine xw_aload_n (pc := 0) dX6_of_0 0 rfl ?_
  refine xm_get (p := 1) (pc := 1) hM fd_X6_9 dX6_of_1 rfl ?_
  refine xw_iload_n (pc := 4) dX6_of_4 1 rfl ?_
  refine xw_callV (pc := 5) (xr_S (as := [_]) ok_X6_at rfl (by decide) q2400 q2401 dX6_of_5 rfl rfl (Nat.le_of_ble_eq_true rfl)) (SP_X6_at (r)) ?_
  refine xw_iload_n (pc := 8) dX6_of_8 2 rfl ?_
  refine xn_iadd (pc := 9) dX6_of_9 ?_
  refine xm_iald (pc := 10) hM dX6_of_10 rfl (by omega) ?_
  refine xw_iret (pc := 11) .int dX6_of_11 rfl ?_ 
  exact ⟨rfl, rfl⟩

theorem SP_X6_outer {d : Nat} {g : xG} {m : Nat} {S : xMS} (hM : xMod g m) (k : Nat) (hk : 3 + 2 * k < 391) : XM M_X6_outer (d) [.ref m, .int (nI k)] (xWith g m S) (xOne (some (.int (S 1 (3 + 2 * k)))) (xWith g m S)) := by
  refine xm_of (by decide +kernel) (Nat.le_of_ble_eq_true rfl) ?_
  show XW _ _ 0 [(0, _), (1, _)] [] _ _
  refine xw_aload_n (pc := 0) dX6_outer_0 0 rfl ?_
  refine xm_get (p := 1) (pc := 1) hM fd_X6_9 dX6_outer_1 rfl ?_
  refine xw_iconst (v := nI 3) (pc := 4) dX6_outer_4 rfl ?_
  refine xw_iconst (v := nI 2) (pc := 5) dX6_outer_5 rfl ?_
  refine xw_iload_n (pc := 6) dX6_outer_6 1 rfl ?_
  refine xn_imul (pc := 7) dX6_outer_7 ?_
  refine xn_iadd (pc := 8) dX6_outer_8 ?_
  refine xm_iald (pc := 9) hM dX6_outer_9 rfl (by omega) ?_
  refine xw_iret (pc := 10) .int dX6_outer_10 rfl ?_ 
  exact ⟨rfl, rfl⟩

theorem SP_X6_isDay {d : Nat} {g : xG} {v : Int32} : XM M_X6_isDay (d + 1) [.int v] (g) (xOne (some (.int (bI (inR v (nI 0) (nI 999))))) (g)) := by
  refine xm_of (by decide +kernel) (Nat.le_of_ble_eq_true rfl) ?_
  show XW _ _ 0 [(0, _)] [] _ _
  refine xw_iload_n (pc := 0) dX6_isDay_0 0 rfl ?_
  refine xw_iconst (v := nI 0) (pc := 1) dX6_isDay_1 rfl ?_
  refine xw_sipush (v := nI 999) (pc := 2) dX6_isDay_2 (by decide +kernel) ?_
  refine xw_callV (pc := 5) (xr_S (as := [_, _, _]) ok_X6_in rfl (by decide) q2364 q2365 dX6_isDay_5 rfl rfl (Nat.le_of_ble_eq_true rfl)) (SP_X6_in) ?_
  refine xw_iret (pc := 8) .boolean dX6_isDay_8 rfl ?_ (by first | rfl | (cases ‹Bool› <;> rfl) | exact xnB _)
  exact ⟨rfl, rfl⟩

theorem SP_X6_isEffect {d : Nat} {g : xG} {v : Int32} : XM M_X6_isEffect (d + 1) [.int v] (g) (xOne (some (.int (bI (inR v (nI 0) (nI 2))))) (g)) := by
  refine xm_of (by decide +kernel) (Nat.le_of_ble_eq_true rfl) ?_
  show XW _ _ 0 [(0, _)] [] _ _
  refine xw_iload_n (pc := 0) dX6_isEffect_0 0 rfl ?_
  refine xw_iconst (v := nI 0) (pc := 1) dX6_isEffect_1 rfl ?_
  refine xw_iconst (v := nI 2) (pc := 2) dX6_isEffect_2 rfl ?_
  refine xw_callV (pc := 3) (xr_S (as := [_, _, _]) ok_X6_in rfl (by decide) q2364 q2365 dX6_isEffect_3 rfl rfl (Nat.le_of_ble_eq_true rfl)) (SP_X6_in) ?_
  refine xw_iret (pc := 6) .boolean dX6_isEffect_6 rfl ?_ (by first | rfl | (cases ‹Bool› <;> rfl) | exact xnB _)
  exact ⟨rfl, rfl⟩

theorem SP_X6_isRow {d : Nat} {g : xG} {v : Int32} : XM M_X6_isRow (d + 1) [.int v] (g) (xOne (some (.int (bI (inR v (nI 0) (nI 2))))) (g)) := by
  refine xm_of (by decide +kernel) (Nat.le_of_ble_eq_true rfl) ?_
  show XW _ _ 0 [(0, _)] [] _ _
  refine xw_iload_n (pc := 0) dX6_isRow_0 0 rfl ?_
  refine xw_iconst (v := nI 0) (pc := 1) dX6_isRow_1 rfl ?_
  refine xw_iconst (v := nI 2) (pc := 2) dX6_isRow_2 rfl ?_
  refine xw_callV (pc := 3) (xr_S (as := [_, _, _]) ok_X6_in rfl (by decide) q2364 q2365 dX6_isRow_3 rfl rfl (Nat.le_of_ble_eq_true rfl)) (SP_X6_in) ?_
  refine xw_iret (pc := 6) .boolean dX6_isRow_6 rfl ?_ (by first | rfl | (cases ‹Bool› <;> rfl) | exact xnB _)
  exact ⟨rfl, rfl⟩

theorem SP_X6_isScope {d : Nat} {g : xG} {m : Nat} {S : xMS} (hM : xMod g m) {v : Int32} : XM M_X6_isScope (d + 1) [.ref m, .int v] (xWith g m S) (xOne (some (.int (bI (inR v (nI 0) (S 1 0 - nI 1))))) (xWith g m S)) := by
  refine xm_of (by decide +kernel) (Nat.le_of_ble_eq_true rfl) ?_
  show XW _ _ 0 [(0, _), (1, _)] [] _ _
  refine xw_iload_n (pc := 0) dX6_isScope_0 1 rfl ?_
  refine xw_iconst (v := nI 0) (pc := 1) dX6_isScope_1 rfl ?_
  refine xw_aload_n (pc := 2) dX6_isScope_2 0 rfl ?_
  refine xm_get (p := 1) (pc := 3) hM fd_X6_9 dX6_isScope_3 rfl ?_
  refine xw_iconst (v := nI 0) (pc := 6) dX6_isScope_6 rfl ?_
  refine xm_iald (pc := 7) hM dX6_isScope_7 rfl (by omega) ?_
  refine xw_iconst (v := nI 1) (pc := 8) dX6_isScope_8 rfl ?_
  refine xw_isub (pc := 9) dX6_isScope_9 ?_
  refine xw_callV (pc := 10) (xr_S (as := [_, _, _]) ok_X6_in rfl (by decide) q2364 q2365 dX6_isScope_10 rfl rfl (Nat.le_of_ble_eq_true rfl)) (SP_X6_in) ?_
  refine xw_iret (pc := 13) .boolean dX6_isScope_13 rfl ?_ (by first | rfl | (cases ‹Bool› <;> rfl) | exact xnB _)
  exact ⟨rfl, rfl⟩

theorem SP_X6_isRule {d : Nat} {g : xG} {m : Nat} {S : xMS} (hM : xMod g m) {v : Int32} : XM M_X6_isRule (d + 1) [.ref m, .int v] (xWith g m S) (xOne (some (.int (bI (inR v (nI 0) (S 1 1 - nI 1))))) (xWith g m S)) := by
  refine xm_of (by decide +kernel) (Nat.le_of_ble_eq_true rfl) ?_
  show XW _ _ 0 [(0, _), (1, _)] [] _ _
  refine xw_iload_n (pc := 0) dX6_isRule_0 1 rfl ?_
  refine xw_iconst (v := nI 0) (pc := 1) dX6_isRule_1 rfl ?_
  refine xw_aload_n (pc := 2) dX6_isRule_2 0 rfl ?_
  refine xm_get (p := 1) (pc := 3) hM fd_X6_9 dX6_isRule_3 rfl ?_
  refine xw_iconst (v := nI 1) (pc := 6) dX6_isRule_6 rfl ?_
  refine xm_iald (pc := 7) hM dX6_isRule_7 rfl (by omega) ?_
  refine xw_iconst (v := nI 1) (pc := 8) dX6_isRule_8 rfl ?_
  refine xw_isub (pc := 9) dX6_isRule_9 ?_
  refine xw_callV (pc := 10) (xr_S (as := [_, _, _]) ok_X6_in rfl (by decide) q2364 q2365 dX6_isRule_10 rfl rfl (Nat.le_of_ble_eq_true rfl)) (SP_X6_in) ?_
  refine xw_iret (pc := 13) .boolean dX6_isRule_13 rfl ?_ (by first | rfl | (cases ‹Bool› <;> rfl) | exact xnB _)
  exact ⟨rfl, rfl⟩

theorem SP_X6_isWork {d : Nat} {g : xG} {m : Nat} {S : xMS} (hM : xMod g m) {v : Int32} : XM M_X6_isWork (d + 1) [.ref m, .int v] (xWith g m S) (xOne (some (.int (bI (inR v (nI 0) (S 1 2 - nI 1))))) (xWith g m S)) := by
  refine xm_of (by decide +kernel) (Nat.le_of_ble_eq_true rfl) ?_
  show XW _ _ 0 [(0, _), (1, _)] [] _ _
  refine xw_iload_n (pc := 0) dX6_isWork_0 1 rfl ?_
  refine xw_iconst (v := nI 0) (pc := 1) dX6_isWork_1 rfl ?_
  refine xw_aload_n (pc := 2) dX6_isWork_2 0 rfl ?_
  refine xm_get (p := 1) (pc := 3) hM fd_X6_9 dX6_isWork_3 rfl ?_
  refine xw_iconst (v := nI 2) (pc := 6) dX6_isWork_6 rfl ?_
  refine xm_iald (pc := 7) hM dX6_isWork_7 rfl (by omega) ?_
  refine xw_iconst (v := nI 1) (pc := 8) dX6_isWork_8 rfl ?_
  refine xw_isub (pc := 9) dX6_isWork_9 ?_
  refine xw_callV (pc := 10) (xr_S (as := [_, _, _]) ok_X6_in rfl (by decide) q2364 q2365 dX6_isWork_10 rfl rfl (Nat.le_of_ble_eq_true rfl)) (SP_X6_in) ?_
  refine xw_iret (pc := 13) .boolean dX6_isWork_13 rfl ?_ (by first | rfl | (cases ‹Bool› <;> rfl) | exact xnB _)
  exact ⟨rfl, rfl⟩

theorem SP_X6_keepState {d : Nat} {g : xG} {m : Nat} {S : xMS} (hM : xMod g m) : XM M_X6_keepState (d + 1) [.ref m] (xWith g m S) (xOne none (xWith g m (mcpy S 1 2 0 0 391))) := by
  refine xm_of (by decide +kernel) (Nat.le_of_ble_eq_true rfl) ?_
  show XW _ _ 0 [(0, _)] [] _ _
  refine xw_aload_n (pc := 0) dX6_keepState_0 0 rfl ?_
  refine xm_get (p := 1) (pc := 1) hM fd_X6_9 dX6_keepState_1 rfl ?_
  refine xw_iconst (v := nI 0) (pc := 4) dX6_keepState_4 rfl ?_
  refine xw_aload_n (pc := 5) dX6_keepState_5 0 rfl ?_
  refine xm_get (p := 2) (pc := 6) hM fd_X6_13 dX6_keepState_6 rfl ?_
  refine xw_iconst (v := nI 0) (pc := 9) dX6_keepState_9 rfl ?_
  refine xw_sipush (v := nI 391) (pc := 10) dX6_keepState_10 (by decide +kernel) ?_
  refine xm_copy (pc := 13) hM dX6_keepState_13 q2371 rfl rfl (by decide) (by omega) (by omega) (Nat.le_of_ble_eq_true rfl) ?_
  refine xw_vret (pc := 16) dX6_keepState_16 rfl ?_
  exact ⟨rfl, rfl⟩

theorem SP_X6_refuse {d : Nat} {g : xG} {m : Nat} {S : xMS} (hM : xMod g m) {a b c : Int32} : XM M_X6_refuse (d) [.ref m, .int a, .int b, .int c] (xWith g m S) (xOne (some (.int (nI 0))) (xWith g m (mset (mset (mset S 0 6 a) 0 7 b) 0 8 c))) := by
  refine xm_of (by decide +kernel) (Nat.le_of_ble_eq_true rfl) ?_
  show XW _ _ 0 [(0, _), (1, _), (2, _), (3, _)] [] _ _
  refine xw_aload_n (pc := 0) dX6_refuse_0 0 rfl ?_
  refine xw_iload_n (pc := 1) dX6_refuse_1 1 rfl ?_
  refine xm_putI (pc := 2) hM fd_X6_62 (xfin_of (by decide) (by decide +kernel)) dX6_refuse_2 ?_
  refine xw_aload_n (pc := 5) dX6_refuse_5 0 rfl ?_
  refine xw_iload_n (pc := 6) dX6_refuse_6 2 rfl ?_
  refine xm_putI (pc := 7) hM fd_X6_74 (xfin_of (by decide) (by decide +kernel)) dX6_refuse_7 ?_
  refine xw_aload_n (pc := 10) dX6_refuse_10 0 rfl ?_
  refine xw_iload_n (pc := 11) dX6_refuse_11 3 rfl ?_
  refine xm_putI (pc := 12) hM fd_X6_77 (xfin_of (by decide) (by decide +kernel)) dX6_refuse_12 ?_
  refine xw_iconst (v := nI 0) (pc := 15) dX6_refuse_15 rfl ?_
  refine xw_iret (pc := 16) .int dX6_refuse_16 rfl ?_ 
  exact ⟨rfl, rfl⟩

theorem SP_X6_change {d : Nat} {g : xG} {m : Nat} {S : xMS} (hM : xMod g m) (p : Nat) (hp : p ≤ 8) (h : S 0 5 = nI p) : XM M_X6_change (d + 1) [.ref m] (xWith g m S) (xOne none (xWith g m (chg S p))) := by
  by_cases h8 : p = 8
  · subst h8
    refine xm_of (by decide +kernel) (Nat.le_of_ble_eq_true rfl) ?_
    show XW _ _ 0 [(0, _)] [] _ _
    refine xw_aload_n (pc := 0) dX6_change_0 0 rfl ?_
    refine xm_getN (k := 8) (pc := 1) hM fd_X6_71 dX6_change_1 (by exact h) ?_
    refine xw_bipush (v := nI 8) (pc := 4) dX6_change_4 (by decide +kernel) ?_
    refine xw_icmp_ne (pc := 6) 37 dX6_change_6 rfl (fun hb => absurd hb (by decide)) (fun _ => ?_)
    refine xw_aload_n (pc := 9) dX6_change_9 0 rfl ?_
    refine xm_get (p := 4) (pc := 10) hM fd_X6_19 dX6_change_10 rfl ?_
    refine xw_sipush (v := nI 391) (pc := 13) dX6_change_13 (by decide +kernel) ?_
    refine xw_aload_n (pc := 16) dX6_change_16 0 rfl ?_
    refine xm_get (p := 4) (pc := 17) hM fd_X6_19 dX6_change_17 rfl ?_
    refine xw_iconst (v := nI 0) (pc := 20) dX6_change_20 rfl ?_
    refine xw_sipush (v := nI 2737) (pc := 21) dX6_change_21 (by decide +kernel) ?_
    refine xm_copy (pc := 24) hM dX6_change_24 q2371 rfl rfl (by decide) (by omega) (by omega) (Nat.le_of_ble_eq_true rfl) ?_
    refine xw_aload_n (pc := 27) dX6_change_27 0 rfl ?_
    refine xw_dup (pc := 28) dX6_change_28 rfl ?_
    refine xm_getN (k := 8) (pc := 29) hM fd_X6_71 dX6_change_29 (by exact h) ?_
    refine xw_iconst (v := nI 1) (pc := 32) dX6_change_32 rfl ?_
    refine xn_isub (pc := 33) dX6_change_33 (by omega) ?_
    refine xm_putI (pc := 34) hM fd_X6_71 (xfin_of (by decide) (by decide +kernel)) dX6_change_34 ?_
    refine xw_aload_n (pc := 37) dX6_change_37 0 rfl ?_
    refine xm_get (p := 2) (pc := 38) hM fd_X6_13 dX6_change_38 rfl ?_
    refine xw_iconst (v := nI 0) (pc := 41) dX6_change_41 rfl ?_
    refine xw_aload_n (pc := 42) dX6_change_42 0 rfl ?_
    refine xm_get (p := 4) (pc := 43) hM fd_X6_19 dX6_change_43 rfl ?_
    refine xw_sipush (v := nI 391) (pc := 46) dX6_change_46 (by decide +kernel) ?_
    refine xw_aload_n (pc := 49) dX6_change_49 0 rfl ?_
    refine xm_getN (k := 7) (pc := 50) hM fd_X6_71 dX6_change_50 (by rfl) ?_
    refine xn_imul (pc := 53) dX6_change_53 ?_
    refine xw_sipush (v := nI 391) (pc := 54) dX6_change_54 (by decide +kernel) ?_
    refine xm_copy (pc := 57) hM dX6_change_57 q2371 rfl rfl (by decide) (by omega) (by omega) (Nat.le_of_ble_eq_true rfl) ?_
    refine xw_aload_n (pc := 60) dX6_change_60 0 rfl ?_
    refine xw_dup (pc := 61) dX6_change_61 rfl ?_
    refine xm_getN (k := 7) (pc := 62) hM fd_X6_71 dX6_change_62 (by rfl) ?_
    refine xw_iconst (v := nI 1) (pc := 65) dX6_change_65 rfl ?_
    refine xn_iadd (pc := 66) dX6_change_66 ?_
    refine xm_putI (pc := 67) hM fd_X6_71 (xfin_of (by decide) (by decide +kernel)) dX6_change_67 ?_
    refine xw_vret (pc := 70) dX6_change_70 rfl ?_
    exact ⟨rfl, rfl⟩
  · have e : chg S p = mset (mcpy S 2 4 0 (391 * p) 391) 0 5 (nI (p + 1)) := if_neg h8
    rw [e]
    refine xm_of (by decide +kernel) (Nat.le_of_ble_eq_true rfl) ?_
    show XW _ _ 0 [(0, _)] [] _ _
    refine xw_aload_n (pc := 0) dX6_change_0 0 rfl ?_
    refine xm_getN (k := p) (pc := 1) hM fd_X6_71 dX6_change_1 (by exact h) ?_
    refine xw_bipush (v := nI 8) (pc := 4) dX6_change_4 (by decide +kernel) ?_
    refine xw_icmp_ne (pc := 6) 37 dX6_change_6 rfl (fun hb6 => ?_) (fun hb6 => ?_)
    rotate_left
    · exfalso
      replace hb6 : p = 8 := (nI_eq (a := p) (b := 8) (by omega) (by omega)).mp hb6
      omega
    replace hb6 : ¬ (p = 8) := mt (nI_eq (a := p) (b := 8) (by omega) (by omega)).mpr hb6
    refine xw_aload_n (pc := 37) dX6_change_37 0 rfl ?_
    refine xm_get (p := 2) (pc := 38) hM fd_X6_13 dX6_change_38 rfl ?_
    refine xw_iconst (v := nI 0) (pc := 41) dX6_change_41 rfl ?_
    refine xw_aload_n (pc := 42) dX6_change_42 0 rfl ?_
    refine xm_get (p := 4) (pc := 43) hM fd_X6_19 dX6_change_43 rfl ?_
    refine xw_sipush (v := nI 391) (pc := 46) dX6_change_46 (by decide +kernel) ?_
    refine xw_aload_n (pc := 49) dX6_change_49 0 rfl ?_
    refine xm_getN (k := p) (pc := 50) hM fd_X6_71 dX6_change_50 (by exact h) ?_
    refine xn_imul (pc := 53) dX6_change_53 ?_
    refine xw_sipush (v := nI 391) (pc := 54) dX6_change_54 (by decide +kernel) ?_
    refine xm_copy (pc := 57) hM dX6_change_57 q2371 rfl rfl (by decide) (by omega) (by omega) (Nat.le_of_ble_eq_true rfl) ?_
    refine xw_aload_n (pc := 60) dX6_change_60 0 rfl ?_
    refine xw_dup (pc := 61) dX6_change_61 rfl ?_
    refine xm_getN (k := p) (pc := 62) hM fd_X6_71 dX6_change_62 (by exact h) ?_
    refine xw_iconst (v := nI 1) (pc := 65) dX6_change_65 rfl ?_
    refine xn_iadd (pc := 66) dX6_change_66 ?_
    refine xm_putI (pc := 67) hM fd_X6_71 (xfin_of (by decide) (by decide +kernel)) dX6_change_67 ?_
    refine xw_vret (pc := 70) dX6_change_70 rfl ?_
    exact ⟨rfl, rfl⟩
theorem lp_X6_depthOf {d : Nat} {g : xG} {m : Nat} {S : xMS} (hM : xMod g m) {a : Int32} {Q : Option Value ⊕ Nat → xG → Prop} {n : Nat} (hW : WFo (S 1) n) (hn : n ≤ 10) (hQ : True) : ∀ (k c : Nat) (v : Int32), k < n → v = S 1 (3 + 2 * k) → c + dep (S 1) k < 1000 → Q (.inl (some (.int (nI (c + dep (S 1) k))))) (xWith g m S) → XW M_X6_depthOf (d + 1) 8 [(3, .int v), (2, .int (nI c)), (0, .ref m), (1, .int a)] [] (xWith g m S) Q := by
  intro k
  induction k using Nat.strongRecOn with
  | _ k ih =>
  intro c v hk hv hc hq
  by_cases h0 : k = 0
  · subst h0
    have hv1 : v = -1 := hv.trans hW.1
    have hd0 : dep (S 1) 0 = 0 := by rw [dep]; simp
    rw [hd0] at hq
    refine xw_iload_n (pc := 8) dX6_depthOf_8 0 rfl ?_
    refine xw_if_lt (pc := 9) 24 dX6_depthOf_9 rfl (fun hb9 => ?_) (fun hb9 => ?_)
    rotate_left
    · exfalso
      rw [hv1] at hb9
      exact hb9 (by decide)
    refine xw_iload_n (pc := 24) dX6_depthOf_24 1 rfl ?_
    refine xw_iret (pc := 25) .int dX6_depthOf_25 rfl ?_ 
    exact hq
  · obtain ⟨h1, h2⟩ := hW.2 k (by omega) hk
    have hv1 : v = nI (ou (S 1) k) := hv.trans h1
    subst hv1
    have hd0 : dep (S 1) k = dep (S 1) (ou (S 1) k) + 1 := by rw [dep, dif_pos ⟨by omega, h2⟩]
    rw [hd0] at hq hc
    have ho := h2
    refine xw_iload_n (pc := 8) dX6_depthOf_8 0 rfl ?_
    refine xw_if_lt (pc := 9) 24 dX6_depthOf_9 rfl (fun hb9 => ?_) (fun hb9 => ?_)
    · exfalso
      replace hb9 : ou (S 1) k < 0 := (nI_ltI (a := ou (S 1) k) (b := 0) (by omega) (by omega)).mp hb9
      omega
    replace hb9 : ¬ (ou (S 1) k < 0) := mt (nI_ltI (a := ou (S 1) k) (b := 0) (by omega) (by omega)).mpr hb9
    refine xw_iinc (v := nI (c + 1)) (l' := [(2, _), (3, _), (0, _), (1, _)]) (pc := 12) dX6_depthOf_12 1 rfl (nI_add _ 1) (by decide) rfl ?_
    refine xw_aload_n (pc := 15) dX6_depthOf_15 2 rfl ?_
    refine xw_iload_n (pc := 16) dX6_depthOf_16 1 rfl ?_
    refine xw_callV (pc := 17) (xr_V (as := [_]) ok_X6_outer rfl (by decide) q2384 q2386 qs50 (by rw [xtag_with, hM.1]; rfl) (by rw [xtag_with, hM.1]; rfl) dX6_depthOf_17 rfl rfl (Nat.le_of_ble_eq_true rfl)) (SP_X6_outer hM (ou (S 1) k) (by omega)) ?_
    refine xw_istore_n (l' := [(3, _), (2, _), (0, _), (1, _)]) (pc := 20) dX6_depthOf_20 rfl (by decide) rfl ?_
    refine xw_goto (pc := 21) 8 dX6_depthOf_21 rfl ?_
    refine ih (ou (S 1) k) h2 (c + 1) _ (by omega) rfl (by omega) ?_
    rw [show c + 1 + dep (S 1) (ou (S 1) k) = c + (dep (S 1) (ou (S 1) k) + 1) from by omega]
    exact hq
theorem SP_X6_depthOf {d : Nat} {g : xG} {m : Nat} {S : xMS} (hM : xMod g m) {n : Nat} (hW : WFo (S 1) n) (hn : n ≤ 10) (k : Nat) (hk : k < n) : XM M_X6_depthOf (d + 1) [.ref m, .int (nI k)] (xWith g m S) (xOne (some (.int (nI (dep (S 1) k)))) (xWith g m S)) := by
  have hdl := dep_le (S 1) k
  refine xm_of (by decide +kernel) (Nat.le_of_ble_eq_true rfl) ?_
  show XW _ _ 0 [(0, _), (1, _)] [] _ _
  refine xw_iconst (v := nI 0) (pc := 0) dX6_depthOf_0 rfl ?_
  refine xw_istore_n (l' := [(2, _), (0, _), (1, _)]) (pc := 1) dX6_depthOf_1 rfl (by decide) rfl ?_
  refine xw_aload_n (pc := 2) dX6_depthOf_2 1 rfl ?_
  refine xw_iload_n (pc := 3) dX6_depthOf_3 2 rfl ?_
  refine xw_callV (pc := 4) (xr_V (as := [_]) ok_X6_outer rfl (by decide) q2384 q2386 qs50 (by rw [xtag_with, hM.1]; rfl) (by rw [xtag_with, hM.1]; rfl) dX6_depthOf_4 rfl rfl (Nat.le_of_ble_eq_true rfl)) (SP_X6_outer hM (k) (by omega)) ?_
  refine xw_istore_n (l' := [(3, _), (2, _), (0, _), (1, _)]) (pc := 7) dX6_depthOf_7 rfl (by decide) rfl ?_
  refine lp_X6_depthOf hM hW hn trivial k 0 _ hk rfl (by omega) ?_
  rw [Nat.zero_add]
  exact ⟨rfl, rfl⟩
theorem lp_X6_within {d : Nat} {g : xG} {m : Nat} {S : xMS} (hM : xMod g m) {a : Int32} {n o : Nat} (hW : WFo (S 1) n) (hn : n ≤ 10) (ho : o < 20) : ∀ (k : Nat), k < n → XW M_X6_within (d + 1) 2 [(3, .int (nI k)), (0, .ref m), (1, .int a), (2, .int (nI o))] [] (xWith g m S) (xOne (some (.int (bI (wit (S 1) k o)))) (xWith g m S)) := by
  intro k
  induction k using Nat.strongRecOn with
  | _ k ih =>
  intro hk
  refine xw_iload_n (pc := 2) dX6_within_2 0 rfl ?_
  refine xw_iload_n (pc := 3) dX6_within_3 3 rfl ?_
  refine xw_icmp_le (pc := 4) 16 dX6_within_4 rfl (fun hb4 => ?_) (fun hb4 => ?_)
  · replace hb4 : k ≤ o := (nI_leI (a := k) (b := o) (by omega) (by omega)).mp hb4
    refine xw_iload_n (pc := 16) dX6_within_16 0 rfl ?_
    refine xw_iload_n (pc := 17) dX6_within_17 3 rfl ?_
    refine xw_icmp_ne (pc := 18) 25 dX6_within_18 rfl (fun hb18 => ?_) (fun hb18 => ?_)
    · replace hb18 : ¬ (k = o) := mt (nI_eq (a := k) (b := o) (by omega) (by omega)).mpr hb18
      refine xw_iconst (v := nI 0) (pc := 25) dX6_within_25 rfl ?_
      refine xw_iret (pc := 26) .boolean dX6_within_26 rfl ?_ 
      refine ⟨congrArg (fun x => Sum.inl (some (Value.int x))) ?_, rfl⟩
      first | (rw [wit, if_pos hb18]; rfl) | (rw [wit_lt _ _ _ (by omega)]; rfl)
    · replace hb18 : k = o := (nI_eq (a := k) (b := o) (by omega) (by omega)).mp hb18
      refine xw_iconst (v := nI 1) (pc := 21) dX6_within_21 rfl ?_
      refine xw_goto (pc := 22) 26 dX6_within_22 rfl ?_
      refine xw_iret (pc := 26) .boolean dX6_within_26 rfl ?_ 
      refine ⟨congrArg (fun x => Sum.inl (some (Value.int x))) ?_, rfl⟩
      first | (rw [wit, if_pos hb18]; rfl) | (rw [wit_lt _ _ _ (by omega)]; rfl)
  · replace hb4 : ¬ (k ≤ o) := mt (nI_leI (a := k) (b := o) (by omega) (by omega)).mpr hb4
    refine xw_aload_n (pc := 7) dX6_within_7 1 rfl ?_
    refine xw_iload_n (pc := 8) dX6_within_8 0 rfl ?_
    refine xw_callV (pc := 9) (xr_V (as := [_]) ok_X6_outer rfl (by decide) q2384 q2386 qs50 (by rw [xtag_with, hM.1]; rfl) (by rw [xtag_with, hM.1]; rfl) dX6_within_9 rfl rfl (Nat.le_of_ble_eq_true rfl)) (SP_X6_outer hM (k) (by omega)) ?_
    refine xw_istore_n (l' := [(3, _), (0, _), (1, _), (2, _)]) (pc := 12) dX6_within_12 rfl (by decide) rfl ?_
    refine xw_goto (pc := 13) 2 dX6_within_13 rfl ?_
    obtain ⟨h1, h2⟩ := hW.2 k (by omega) hk
    rw [h1, wit, if_neg (by omega), dif_pos ⟨by omega, h2⟩]
    exact ih _ h2 (by omega)
theorem SP_X6_within {d : Nat} {g : xG} {m : Nat} {S : xMS} (hM : xMod g m) {n o : Nat} (hW : WFo (S 1) n) (hn : n ≤ 10) (k : Nat) (hk : k < n) (ho : o < 20) : XM M_X6_within (d + 1) [.ref m, .int (nI k), .int (nI o)] (xWith g m S) (xOne (some (.int (bI (wit (S 1) k o)))) (xWith g m S)) := by
  refine xm_of (by decide +kernel) (Nat.le_of_ble_eq_true rfl) ?_
  show XW _ _ 0 [(0, _), (1, _), (2, _)] [] _ _
  refine xw_iload_n (pc := 0) dX6_within_0 1 rfl ?_
  refine xw_istore_n (l' := [(3, _), (0, _), (1, _), (2, _)]) (pc := 1) dX6_within_1 rfl (by decide) rfl ?_
  exact lp_X6_within hM hW hn ho k hk
theorem lp_X6_defaultFor {d : Nat} {g : xG} {m : Nat} {S : xMS} (hM : xMod g m) {a : Int32} {n : Nat} (hW : WFo (S 1) n) (hn : n ≤ 10) (h4 : ¬ S 1 4 < 0) : ∀ (k : Nat), k < n → XW M_X6_defaultFor (d + 1) 2 [(2, .int (nI k)), (0, .ref m), (1, .int a)] [] (xWith g m S) (xOne (some (.int (dfl (S 1) k))) (xWith g m S)) := by
  intro k
  induction k using Nat.strongRecOn with
  | _ k ih =>
  intro hk
  refine xw_aload_n (pc := 2) dX6_defaultFor_2 1 rfl ?_
  refine xm_get (p := 1) (pc := 3) hM fd_X6_9 dX6_defaultFor_3 rfl ?_
  refine xw_iconst (v := nI 3) (pc := 6) dX6_defaultFor_6 rfl ?_
  refine xw_iconst (v := nI 2) (pc := 7) dX6_defaultFor_7 rfl ?_
  refine xw_iload_n (pc := 8) dX6_defaultFor_8 0 rfl ?_
  refine xn_imul (pc := 9) dX6_defaultFor_9 ?_
  refine xn_iadd (pc := 10) dX6_defaultFor_10 ?_
  refine xw_iconst (v := nI 1) (pc := 11) dX6_defaultFor_11 rfl ?_
  refine xn_iadd (pc := 12) dX6_defaultFor_12 ?_
  refine xm_iald (pc := 13) hM dX6_defaultFor_13 rfl (by omega) ?_
  refine xw_if_ge (pc := 14) 26 dX6_defaultFor_14 rfl (fun hb14 => ?_) (fun hb14 => ?_)
  · refine xw_aload_n (pc := 26) dX6_defaultFor_26 1 rfl ?_
    refine xm_get (p := 1) (pc := 27) hM fd_X6_9 dX6_defaultFor_27 rfl ?_
    refine xw_iconst (v := nI 3) (pc := 30) dX6_defaultFor_30 rfl ?_
    refine xw_iconst (v := nI 2) (pc := 31) dX6_defaultFor_31 rfl ?_
    refine xw_iload_n (pc := 32) dX6_defaultFor_32 0 rfl ?_
    refine xn_imul (pc := 33) dX6_defaultFor_33 ?_
    refine xn_iadd (pc := 34) dX6_defaultFor_34 ?_
    refine xw_iconst (v := nI 1) (pc := 35) dX6_defaultFor_35 rfl ?_
    refine xn_iadd (pc := 36) dX6_defaultFor_36 ?_
    refine xm_iald (pc := 37) hM dX6_defaultFor_37 rfl (by omega) ?_
    refine xw_iret (pc := 38) .int dX6_defaultFor_38 rfl ?_ 
    refine ⟨congrArg (fun x => Sum.inl (some (Value.int x))) ?_, rfl⟩
    rw [dfl, dif_neg (fun q => absurd q.1 (Int32.not_lt.mpr (by rw [show 3 + 2 * k + 1 = 4 + 2 * k from by omega] at hb14; exact hb14)))]
    exact congrArg _ (by omega)
  · refine xw_aload_n (pc := 17) dX6_defaultFor_17 1 rfl ?_
    refine xw_iload_n (pc := 18) dX6_defaultFor_18 0 rfl ?_
    refine xw_callV (pc := 19) (xr_V (as := [_]) ok_X6_outer rfl (by decide) q2384 q2386 qs50 (by rw [xtag_with, hM.1]; rfl) (by rw [xtag_with, hM.1]; rfl) dX6_defaultFor_19 rfl rfl (Nat.le_of_ble_eq_true rfl)) (SP_X6_outer hM (k) (by omega)) ?_
    refine xw_istore_n (l' := [(2, _), (0, _), (1, _)]) (pc := 22) dX6_defaultFor_22 rfl (by decide) rfl ?_
    refine xw_goto (pc := 23) 2 dX6_defaultFor_23 rfl ?_
    have h0 : k ≠ 0 := by
      rintro rfl
      exact hb14 (Int32.not_lt.mp h4)
    obtain ⟨h1, h2⟩ := hW.2 k (by omega) hk
    rw [h1, dfl, dif_pos ⟨Int32.not_le.mp (by rw [show 3 + 2 * k + 1 = 4 + 2 * k from by omega] at hb14; exact hb14), by omega, h2⟩]
    exact ih _ h2 (by omega)
theorem SP_X6_defaultFor {d : Nat} {g : xG} {m : Nat} {S : xMS} (hM : xMod g m) {n : Nat} (hW : WFo (S 1) n) (hn : n ≤ 10) (h4 : ¬ S 1 4 < 0) (k : Nat) (hk : k < n) : XM M_X6_defaultFor (d + 1) [.ref m, .int (nI k)] (xWith g m S) (xOne (some (.int (dfl (S 1) k))) (xWith g m S)) := by
  refine xm_of (by decide +kernel) (Nat.le_of_ble_eq_true rfl) ?_
  show XW _ _ 0 [(0, _), (1, _)] [] _ _
  refine xw_iload_n (pc := 0) dX6_defaultFor_0 1 rfl ?_
  refine xw_istore_n (l' := [(2, _), (0, _), (1, _)]) (pc := 1) dX6_defaultFor_1 rfl (by decide) rfl ?_
  exact lp_X6_defaultFor hM hW hn h4 k hk
theorem lp_X6_depthOfRule {d : Nat} {g : xG} {m : Nat} {S : xMS} (hM : xMod g m) {a : Int32} {n : Nat} (hW : WFp (S 1) n) (hn : n ≤ 16) : ∀ (k c : Nat) (v : Int32), k < n → v = S 1 (28 + 20 * k) → c + rdep (S 1) k < 1000 → XW M_X6_depthOfRule (d + 2) 9 [(3, .int v), (2, .int (nI c)), (0, .ref m), (1, .int a)] [] (xWith g m S) (xOne (some (.int (nI (c + rdep (S 1) k)))) (xWith g m S)) := by
  intro k
  induction k using Nat.strongRecOn with
  | _ k ih =>
  intro c v hk hv hc
  rcases hW k hk with h0 | ⟨h1, h2⟩
  · have hv1 : v = -1 := hv.trans h0
    have hd0 : rdep (S 1) k = 0 := by rw [rdep, dif_neg (fun q => absurd q.1 (by rw [h0]; decide))]
    rw [hd0]
    refine xw_iload_n (pc := 9) dX6_depthOfRule_9 0 rfl ?_
    refine xw_if_lt (pc := 10) 26 dX6_depthOfRule_10 rfl (fun hb10 => ?_) (fun hb10 => ?_)
    rotate_left
    · exfalso
      rw [hv1] at hb10
      exact hb10 (by decide)
    refine xw_iload_n (pc := 26) dX6_depthOfRule_26 1 rfl ?_
    refine xw_iret (pc := 27) .int dX6_depthOfRule_27 rfl ?_ 
    exact ⟨rfl, rfl⟩
  · have hv1 : v = nI (parN (S 1) k) := hv.trans h1
    subst hv1
    have hd0 : rdep (S 1) k = rdep (S 1) (parN (S 1) k) + 1 := by rw [rdep, dif_pos ⟨by rw [h1]; exact nI_pos' (by omega), h2⟩]
    rw [hd0] at hc ⊢
    refine xw_iload_n (pc := 9) dX6_depthOfRule_9 0 rfl ?_
    refine xw_if_lt (pc := 10) 26 dX6_depthOfRule_10 rfl (fun hb10 => ?_) (fun hb10 => ?_)
    · exfalso
      replace hb10 : parN (S 1) k < 0 := (nI_ltI (a := parN (S 1) k) (b := 0) (by omega) (by omega)).mp hb10
      omega
    replace hb10 : ¬ (parN (S 1) k < 0) := mt (nI_ltI (a := parN (S 1) k) (b := 0) (by omega) (by omega)).mpr hb10
    refine xw_iinc (v := nI (c + 1)) (l' := [(2, _), (3, _), (0, _), (1, _)]) (pc := 13) dX6_depthOfRule_13 1 rfl (nI_add _ 1) (by decide) rfl ?_
    refine xw_aload_n (pc := 16) dX6_depthOfRule_16 2 rfl ?_
    refine xw_iload_n (pc := 17) dX6_depthOfRule_17 1 rfl ?_
    refine xw_iconst (v := nI 5) (pc := 18) dX6_depthOfRule_18 rfl ?_
    refine xw_callV (pc := 19) (xr_V (as := [_, _]) ok_X6_of rfl (by decide) q2396 q2398 qs53 (by rw [xtag_with, hM.1]; rfl) (by rw [xtag_with, hM.1]; rfl) dX6_depthOfRule_19 rfl rfl (Nat.le_of_ble_eq_true rfl)) (SP_X6_of hM (parN (S 1) k) (5) (by omega)) ?_
    refine xw_istore_n (l' := [(3, _), (2, _), (0, _), (1, _)]) (pc := 22) dX6_depthOfRule_22 rfl (by decide) rfl ?_
    refine xw_goto (pc := 23) 9 dX6_depthOfRule_23 rfl ?_
    have h := ih (parN (S 1) k) h2 (c + 1) _ (by omega) rfl (by omega)
    rw [show c + 1 + rdep (S 1) (parN (S 1) k) = c + (rdep (S 1) (parN (S 1) k) + 1) from by omega, show 28 + 20 * parN (S 1) k = 23 + 20 * parN (S 1) k + 5 from by omega] at h
    exact h
theorem SP_X6_depthOfRule {d : Nat} {g : xG} {m : Nat} {S : xMS} (hM : xMod g m) {n : Nat} (hW : WFp (S 1) n) (hn : n ≤ 16) (k : Nat) (hk : k < n) : XM M_X6_depthOfRule (d + 2) [.ref m, .int (nI k)] (xWith g m S) (xOne (some (.int (nI (rdep (S 1) k)))) (xWith g m S)) := by
  have hdl := rdep_le (S 1) k
  refine xm_of (by decide +kernel) (Nat.le_of_ble_eq_true rfl) ?_
  show XW _ _ 0 [(0, _), (1, _)] [] _ _
  refine xw_iconst (v := nI 0) (pc := 0) dX6_depthOfRule_0 rfl ?_
  refine xw_istore_n (l' := [(2, _), (0, _), (1, _)]) (pc := 1) dX6_depthOfRule_1 rfl (by decide) rfl ?_
  refine xw_aload_n (pc := 2) dX6_depthOfRule_2 1 rfl ?_
  refine xw_iload_n (pc := 3) dX6_depthOfRule_3 2 rfl ?_
  refine xw_iconst (v := nI 5) (pc := 4) dX6_depthOfRule_4 rfl ?_
  refine xw_callV (pc := 5) (xr_V (as := [_, _]) ok_X6_of rfl (by decide) q2396 q2398 qs53 (by rw [xtag_with, hM.1]; rfl) (by rw [xtag_with, hM.1]; rfl) dX6_depthOfRule_5 rfl rfl (Nat.le_of_ble_eq_true rfl)) (SP_X6_of hM (k) (5) (by omega)) ?_
  refine xw_istore_n (l' := [(3, _), (2, _), (0, _), (1, _)]) (pc := 8) dX6_depthOfRule_8 rfl (by decide) rfl ?_
  have h := lp_X6_depthOfRule (a := nI k) (d := d) hM hW hn k 0 _ hk rfl (by omega)
  rw [Nat.zero_add, show 28 + 20 * k = 23 + 20 * k + 5 from by omega] at h
  exact h
theorem SP_X6_fulfils {d : Nat} {g : xG} {v dg : Int32} (k : Nat) (hk : k < 4) : XM M_X6_fulfils (d) [.int v, .int (nI k), .int dg] (g) (xOne (some (.int (bI (fulf v k dg)))) (g)) := by
  refine xm_of (by decide +kernel) (Nat.le_of_ble_eq_true rfl) ?_
  show XW _ _ 0 [(0, _), (1, _), (2, _)] [] _ _
  refine xw_iload_n (pc := 0) dX6_fulfils_0 1 rfl ?_
  by_cases hs1_0 : k = 0
  · rw [hs1_0]
    refine xw_tableIn (x := nI 0) (pc := 1) 28 dX6_fulfils_1 (by decide) (by decide) rfl rfl ?_
    refine xw_iload_n (pc := 28) dX6_fulfils_28 0 rfl ?_
    refine xw_iload_n (pc := 29) dX6_fulfils_29 2 rfl ?_
    refine xw_icmp_ne (pc := 30) 37 dX6_fulfils_30 rfl (fun hb30 => ?_) (fun hb30 => ?_)
    · refine xw_iconst (v := nI 0) (pc := 37) dX6_fulfils_37 rfl ?_
      refine xw_iret (pc := 38) .boolean dX6_fulfils_38 rfl ?_ 
      refine ⟨congrArg (fun x => Sum.inl (some (Value.int x))) ?_, rfl⟩
      first | (change bI true = _; simp [fulf, *]; done) | (change bI false = _; simp [fulf, *]; done) | (change bI true = _; simp_all [fulf, ← Int32.not_lt]; done) | (change bI false = _; simp_all [fulf, ← Int32.not_lt]; done) | (obtain rfl : k = 3 := by omega; first | (change bI true = _; simp [fulf, *]; done) | (change bI false = _; simp [fulf, *]; done))
    · refine xw_iconst (v := nI 1) (pc := 33) dX6_fulfils_33 rfl ?_
      refine xw_goto (pc := 34) 38 dX6_fulfils_34 rfl ?_
      refine xw_iret (pc := 38) .boolean dX6_fulfils_38 rfl ?_ 
      refine ⟨congrArg (fun x => Sum.inl (some (Value.int x))) ?_, rfl⟩
      first | (change bI true = _; simp [fulf, *]; done) | (change bI false = _; simp [fulf, *]; done) | (change bI true = _; simp_all [fulf, ← Int32.not_lt]; done) | (change bI false = _; simp_all [fulf, ← Int32.not_lt]; done) | (obtain rfl : k = 3 := by omega; first | (change bI true = _; simp [fulf, *]; done) | (change bI false = _; simp [fulf, *]; done))
  by_cases hs1_1 : k = 1
  · rw [hs1_1]
    refine xw_tableIn (x := nI 1) (pc := 1) 39 dX6_fulfils_1 (by decide) (by decide) rfl rfl ?_
    refine xw_iload_n (pc := 39) dX6_fulfils_39 0 rfl ?_
    refine xw_iload_n (pc := 40) dX6_fulfils_40 2 rfl ?_
    refine xw_icmp_ge (pc := 41) 48 dX6_fulfils_41 rfl (fun hb41 => ?_) (fun hb41 => ?_)
    · refine xw_iconst (v := nI 0) (pc := 48) dX6_fulfils_48 rfl ?_
      refine xw_iret (pc := 49) .boolean dX6_fulfils_49 rfl ?_ 
      refine ⟨congrArg (fun x => Sum.inl (some (Value.int x))) ?_, rfl⟩
      first | (change bI true = _; simp [fulf, *]; done) | (change bI false = _; simp [fulf, *]; done) | (change bI true = _; simp_all [fulf, ← Int32.not_lt]; done) | (change bI false = _; simp_all [fulf, ← Int32.not_lt]; done) | (obtain rfl : k = 3 := by omega; first | (change bI true = _; simp [fulf, *]; done) | (change bI false = _; simp [fulf, *]; done))
    · refine xw_iconst (v := nI 1) (pc := 44) dX6_fulfils_44 rfl ?_
      refine xw_goto (pc := 45) 49 dX6_fulfils_45 rfl ?_
      refine xw_iret (pc := 49) .boolean dX6_fulfils_49 rfl ?_ 
      refine ⟨congrArg (fun x => Sum.inl (some (Value.int x))) ?_, rfl⟩
      first | (change bI true = _; simp [fulf, *]; done) | (change bI false = _; simp [fulf, *]; done) | (change bI true = _; simp_all [fulf, ← Int32.not_lt]; done) | (change bI false = _; simp_all [fulf, ← Int32.not_lt]; done) | (obtain rfl : k = 3 := by omega; first | (change bI true = _; simp [fulf, *]; done) | (change bI false = _; simp [fulf, *]; done))
  by_cases hs1_2 : k = 2
  · rw [hs1_2]
    refine xw_tableIn (x := nI 2) (pc := 1) 50 dX6_fulfils_1 (by decide) (by decide) rfl rfl ?_
    refine xw_iload_n (pc := 50) dX6_fulfils_50 0 rfl ?_
    refine xw_iload_n (pc := 51) dX6_fulfils_51 2 rfl ?_
    refine xw_icmp_le (pc := 52) 59 dX6_fulfils_52 rfl (fun hb52 => ?_) (fun hb52 => ?_)
    · refine xw_iconst (v := nI 0) (pc := 59) dX6_fulfils_59 rfl ?_
      refine xw_iret (pc := 60) .boolean dX6_fulfils_60 rfl ?_ 
      refine ⟨congrArg (fun x => Sum.inl (some (Value.int x))) ?_, rfl⟩
      first | (change bI true = _; simp [fulf, *]; done) | (change bI false = _; simp [fulf, *]; done) | (change bI true = _; simp_all [fulf, ← Int32.not_lt]; done) | (change bI false = _; simp_all [fulf, ← Int32.not_lt]; done) | (obtain rfl : k = 3 := by omega; first | (change bI true = _; simp [fulf, *]; done) | (change bI false = _; simp [fulf, *]; done))
    · refine xw_iconst (v := nI 1) (pc := 55) dX6_fulfils_55 rfl ?_
      refine xw_goto (pc := 56) 60 dX6_fulfils_56 rfl ?_
      refine xw_iret (pc := 60) .boolean dX6_fulfils_60 rfl ?_ 
      refine ⟨congrArg (fun x => Sum.inl (some (Value.int x))) ?_, rfl⟩
      first | (change bI true = _; simp [fulf, *]; done) | (change bI false = _; simp [fulf, *]; done) | (change bI true = _; simp_all [fulf, ← Int32.not_lt]; done) | (change bI false = _; simp_all [fulf, ← Int32.not_lt]; done) | (obtain rfl : k = 3 := by omega; first | (change bI true = _; simp [fulf, *]; done) | (change bI false = _; simp [fulf, *]; done))
  refine xw_tableOut (pc := 1) 61 dX6_fulfils_1 (by first | (rw [nI_toInt (by omega)]; right; omega) | exact xt_out3 hs1_0 hs1_1 hs1_2) rfl ?_
  refine xw_iload_n (pc := 61) dX6_fulfils_61 0 rfl ?_
  refine xw_iload_n (pc := 62) dX6_fulfils_62 2 rfl ?_
  refine xw_icmp_eq (pc := 63) 70 dX6_fulfils_63 rfl (fun hb63 => ?_) (fun hb63 => ?_)
  · refine xw_iconst (v := nI 0) (pc := 70) dX6_fulfils_70 rfl ?_
    refine xw_iret (pc := 71) .boolean dX6_fulfils_71 rfl ?_ 
    refine ⟨congrArg (fun x => Sum.inl (some (Value.int x))) ?_, rfl⟩
    first | (change bI true = _; simp [fulf, *]; done) | (change bI false = _; simp [fulf, *]; done) | (change bI true = _; simp_all [fulf, ← Int32.not_lt]; done) | (change bI false = _; simp_all [fulf, ← Int32.not_lt]; done) | (obtain rfl : k = 3 := by omega; first | (change bI true = _; simp [fulf, *]; done) | (change bI false = _; simp [fulf, *]; done))
  · refine xw_iconst (v := nI 1) (pc := 66) dX6_fulfils_66 rfl ?_
    refine xw_goto (pc := 67) 71 dX6_fulfils_67 rfl ?_
    refine xw_iret (pc := 71) .boolean dX6_fulfils_71 rfl ?_ 
    refine ⟨congrArg (fun x => Sum.inl (some (Value.int x))) ?_, rfl⟩
    first | (change bI true = _; simp [fulf, *]; done) | (change bI false = _; simp [fulf, *]; done) | (change bI true = _; simp_all [fulf, ← Int32.not_lt]; done) | (change bI false = _; simp_all [fulf, ← Int32.not_lt]; done) | (obtain rfl : k = 3 := by omega; first | (change bI true = _; simp [fulf, *]; done) | (change bI false = _; simp [fulf, *]; done))

theorem SP_X6_moreTest {d : Nat} {g : xG} {m : Nat} {S : xMS} (hM : xMod g m) {f gg dg : Int32} (k : Nat) (hk : k < 60) (h : S 0 11 = nI k) : XM M_X6_moreTest (d) [.ref m, .int f, .int gg, .int dg] (xWith g m S) (xOne none (xWith g m (mtest S k f gg dg))) := by
  refine xm_of (by decide +kernel) (Nat.le_of_ble_eq_true rfl) ?_
  show XW _ _ 0 [(0, _), (1, _), (2, _), (3, _)] [] _ _
  refine xw_aload_n (pc := 0) dX6_moreTest_0 0 rfl ?_
  refine xm_get (p := 5) (pc := 1) hM fd_X6_22 dX6_moreTest_1 rfl ?_
  refine xw_iconst (v := nI 3) (pc := 4) dX6_moreTest_4 rfl ?_
  refine xw_aload_n (pc := 5) dX6_moreTest_5 0 rfl ?_
  refine xm_getN (k := k) (pc := 6) hM fd_X6_145 dX6_moreTest_6 (by first | exact h | (simp [mset]; exact h)) ?_
  refine xn_imul (pc := 9) dX6_moreTest_9 ?_
  refine xw_iload_n (pc := 10) dX6_moreTest_10 1 rfl ?_
  refine xm_iast (pc := 11) hM dX6_moreTest_11 rfl (by omega) ?_
  refine xw_aload_n (pc := 12) dX6_moreTest_12 0 rfl ?_
  refine xm_get (p := 5) (pc := 13) hM fd_X6_22 dX6_moreTest_13 rfl ?_
  refine xw_iconst (v := nI 3) (pc := 16) dX6_moreTest_16 rfl ?_
  refine xw_aload_n (pc := 17) dX6_moreTest_17 0 rfl ?_
  refine xm_getN (k := k) (pc := 18) hM fd_X6_145 dX6_moreTest_18 (by first | exact h | (simp [mset]; exact h)) ?_
  refine xn_imul (pc := 21) dX6_moreTest_21 ?_
  refine xw_iconst (v := nI 1) (pc := 22) dX6_moreTest_22 rfl ?_
  refine xn_iadd (pc := 23) dX6_moreTest_23 ?_
  refine xw_iload_n (pc := 24) dX6_moreTest_24 2 rfl ?_
  refine xm_iast (pc := 25) hM dX6_moreTest_25 rfl (by omega) ?_
  refine xw_aload_n (pc := 26) dX6_moreTest_26 0 rfl ?_
  refine xm_get (p := 5) (pc := 27) hM fd_X6_22 dX6_moreTest_27 rfl ?_
  refine xw_iconst (v := nI 3) (pc := 30) dX6_moreTest_30 rfl ?_
  refine xw_aload_n (pc := 31) dX6_moreTest_31 0 rfl ?_
  refine xm_getN (k := k) (pc := 32) hM fd_X6_145 dX6_moreTest_32 (by first | exact h | (simp [mset]; exact h)) ?_
  refine xn_imul (pc := 35) dX6_moreTest_35 ?_
  refine xw_iconst (v := nI 2) (pc := 36) dX6_moreTest_36 rfl ?_
  refine xn_iadd (pc := 37) dX6_moreTest_37 ?_
  refine xw_iload_n (pc := 38) dX6_moreTest_38 3 rfl ?_
  refine xm_iast (pc := 39) hM dX6_moreTest_39 rfl (by omega) ?_
  refine xw_aload_n (pc := 40) dX6_moreTest_40 0 rfl ?_
  refine xw_dup (pc := 41) dX6_moreTest_41 rfl ?_
  refine xm_getN (k := k) (pc := 42) hM fd_X6_145 dX6_moreTest_42 (by first | exact h | (simp [mset]; exact h)) ?_
  refine xw_iconst (v := nI 1) (pc := 45) dX6_moreTest_45 rfl ?_
  refine xn_iadd (pc := 46) dX6_moreTest_46 ?_
  refine xm_putI (pc := 47) hM fd_X6_145 (xfin_of (by decide) (by decide +kernel)) dX6_moreTest_47 ?_
  refine xw_vret (pc := 50) dX6_moreTest_50 rfl ?_
  exact ⟨rfl, rfl⟩

theorem lp_X6_digitOf {d : Nat} {g : xG} {a b : Int32} : ∀ (j f : Nat) (v : Int32), f + j = 5 → XW M_X6_digitOf d 4 [(3, .int (nI f)), (2, .int v), (0, .int a), (1, .int b)] [] g (xOne (some (.int (divs j v - divs j v / nI 10 * nI 10))) g) := by
  intro j
  induction j with
  | zero =>
    intro f v hf
    refine xw_iload_n (pc := 4) dX6_digitOf_4 0 rfl ?_
    refine xw_iconst (v := nI 5) (pc := 5) dX6_digitOf_5 rfl ?_
    refine xw_icmp_ge (pc := 6) 20 dX6_digitOf_6 rfl (fun hb6 => ?_) (fun hb6 => ?_)
    rotate_left
    · exfalso
      replace hb6 : ¬ (5 ≤ f) := mt (nI_leI (a := 5) (b := f) (by omega) (by omega)).mpr hb6
      omega
    replace hb6 : 5 ≤ f := (nI_leI (a := 5) (b := f) (by omega) (by omega)).mp hb6
    refine xw_iload_n (pc := 20) dX6_digitOf_20 1 rfl ?_
    refine xw_bipush (v := nI 10) (pc := 21) dX6_digitOf_21 (by decide +kernel) ?_
    refine xw_irem (pc := 23) dX6_digitOf_23 (by decide) ?_
    refine xw_iret (pc := 24) .int dX6_digitOf_24 rfl ?_ 
    exact ⟨rfl, rfl⟩
  | succ j ih =>
    intro f v hf
    refine xw_iload_n (pc := 4) dX6_digitOf_4 0 rfl ?_
    refine xw_iconst (v := nI 5) (pc := 5) dX6_digitOf_5 rfl ?_
    refine xw_icmp_ge (pc := 6) 20 dX6_digitOf_6 rfl (fun hb6 => ?_) (fun hb6 => ?_)
    · exfalso
      replace hb6 : 5 ≤ f := (nI_leI (a := 5) (b := f) (by omega) (by omega)).mp hb6
      omega
    replace hb6 : ¬ (5 ≤ f) := mt (nI_leI (a := 5) (b := f) (by omega) (by omega)).mpr hb6
    refine xw_iload_n (pc := 9) dX6_digitOf_9 1 rfl ?_
    refine xw_bipush (v := nI 10) (pc := 10) dX6_digitOf_10 (by decide +kernel) ?_
    refine xw_idiv (pc := 12) dX6_digitOf_12 (by decide) ?_
    refine xw_istore_n (l' := [(2, _), (3, _), (0, _), (1, _)]) (pc := 13) dX6_digitOf_13 rfl (by decide) rfl ?_
    refine xw_iinc (v := nI (f + 1)) (l' := [(3, _), (2, _), (0, _), (1, _)]) (pc := 14) dX6_digitOf_14 1 rfl (nI_add _ 1) (by decide) rfl ?_
    refine xw_goto (pc := 17) 4 dX6_digitOf_17 rfl ?_
    exact ih (f + 1) _ (by omega)
theorem SP_X6_digitOf {d : Nat} {g : xG} {v : Int32} (f : Nat) (hf : f < 6) : XM M_X6_digitOf (d) [.int v, .int (nI f)] (g) (xOne (some (.int (dig v f))) (g)) := by
  refine xm_of (by decide +kernel) (Nat.le_of_ble_eq_true rfl) ?_
  show XW _ _ 0 [(0, _), (1, _)] [] _ _
  refine xw_iload_n (pc := 0) dX6_digitOf_0 0 rfl ?_
  refine xw_istore_n (l' := [(2, _), (0, _), (1, _)]) (pc := 1) dX6_digitOf_1 rfl (by decide) rfl ?_
  refine xw_iload_n (pc := 2) dX6_digitOf_2 2 rfl ?_
  refine xw_istore_n (l' := [(3, _), (2, _), (0, _), (1, _)]) (pc := 3) dX6_digitOf_3 rfl (by decide) rfl ?_
  exact lp_X6_digitOf (5 - f) f v (by omega)
def osP (S : xMS) (k : Nat) : Bool := !decide (S 9 (3 * k) < 0)
theorem lp_X6_onSheet {d : Nat} {g : xG} {m : Nat} {S : xMS} (hM : xMod g m) : ∀ (j k : Nat), 6 - k < j → k ≤ 6 → XW M_X6_onSheet d 4 [(2, .int (nI k)), (1, .int (nI (cntB (osP S) k))), (0, .ref m)] [] (xWith g m S) (xOne (some (.int (nI (cntB (osP S) 6)))) (xWith g m S)) := by
  intro j
  induction j with
  | zero => intro k h; omega
  | succ j ih =>
  intro k hj hk
  have hcl := cntB_le (osP S) k
  refine xw_iload_n (pc := 4) dX6_onSheet_4 0 rfl ?_
  refine xw_bipush (v := nI 6) (pc := 5) dX6_onSheet_5 (by decide +kernel) ?_
  refine xw_icmp_ge (pc := 7) 35 dX6_onSheet_7 rfl (fun hb7 => ?_) (fun hb7 => ?_)
  · replace hb7 : 6 ≤ k := (nI_leI (a := 6) (b := k) (by omega) (by omega)).mp hb7
    refine xw_iload_n (pc := 35) dX6_onSheet_35 1 rfl ?_
    refine xw_iret (pc := 36) .int dX6_onSheet_36 rfl ?_ 
    obtain rfl : k = 6 := by omega
    exact ⟨rfl, rfl⟩
  · replace hb7 : ¬ (6 ≤ k) := mt (nI_leI (a := 6) (b := k) (by omega) (by omega)).mpr hb7
    refine xw_iload_n (pc := 10) dX6_onSheet_10 1 rfl ?_
    refine xw_aload_n (pc := 11) dX6_onSheet_11 2 rfl ?_
    refine xm_get (p := 9) (pc := 12) hM fd_X6_42 dX6_onSheet_12 rfl ?_
    refine xw_iconst (v := nI 3) (pc := 15) dX6_onSheet_15 rfl ?_
    refine xw_iload_n (pc := 16) dX6_onSheet_16 0 rfl ?_
    refine xn_imul (pc := 17) dX6_onSheet_17 ?_
    refine xm_iald (pc := 18) hM dX6_onSheet_18 rfl (by omega) ?_
    refine xw_if_lt (pc := 19) 26 dX6_onSheet_19 rfl (fun hb19 => ?_) (fun hb19 => ?_)
    · refine xw_iconst (v := nI 0) (pc := 26) dX6_onSheet_26 rfl ?_
      refine xn_iadd (pc := 27) dX6_onSheet_27 ?_
      refine xw_istore_n (l' := [(1, _), (2, _), (0, _)]) (pc := 28) dX6_onSheet_28 rfl (by decide) rfl ?_
      refine xw_iinc (v := nI (k + 1)) (l' := [(2, _), (1, _), (0, _)]) (pc := 29) dX6_onSheet_29 1 rfl (nI_add _ 1) (by decide) rfl ?_
      refine xw_goto (pc := 32) 4 dX6_onSheet_32 rfl ?_
      have h := ih (k + 1) (by omega) (by omega)
      first
        | (rw [cntB_f (show osP S k = false by simp [osP, hb19])] at h; exact h)
        | (rw [cntB_t (show osP S k = true by simp [osP]; exact Int32.not_lt.mp hb19)] at h; exact h)
    · refine xw_iconst (v := nI 1) (pc := 22) dX6_onSheet_22 rfl ?_
      refine xw_goto (pc := 23) 27 dX6_onSheet_23 rfl ?_
      refine xn_iadd (pc := 27) dX6_onSheet_27 ?_
      refine xw_istore_n (l' := [(1, _), (2, _), (0, _)]) (pc := 28) dX6_onSheet_28 rfl (by decide) rfl ?_
      refine xw_iinc (v := nI (k + 1)) (l' := [(2, _), (1, _), (0, _)]) (pc := 29) dX6_onSheet_29 1 rfl (nI_add _ 1) (by decide) rfl ?_
      refine xw_goto (pc := 32) 4 dX6_onSheet_32 rfl ?_
      have h := ih (k + 1) (by omega) (by omega)
      first
        | (rw [cntB_f (show osP S k = false by simp [osP, hb19])] at h; exact h)
        | (rw [cntB_t (show osP S k = true by simp [osP]; exact Int32.not_lt.mp hb19)] at h; exact h)
theorem SP_X6_onSheet {d : Nat} {g : xG} {m : Nat} {S : xMS} (hM : xMod g m) : XM M_X6_onSheet (d) [.ref m] (xWith g m S) (xOne (some (.int (nI (cntB (osP S) 6)))) (xWith g m S)) := by
  refine xm_of (by decide +kernel) (Nat.le_of_ble_eq_true rfl) ?_
  show XW _ _ 0 [(0, _)] [] _ _
  refine xw_iconst (v := nI 0) (pc := 0) dX6_onSheet_0 rfl ?_
  refine xw_istore_n (l' := [(1, _), (0, _)]) (pc := 1) dX6_onSheet_1 rfl (by decide) rfl ?_
  refine xw_iconst (v := nI 0) (pc := 2) dX6_onSheet_2 rfl ?_
  refine xw_istore_n (l' := [(2, _), (1, _), (0, _)]) (pc := 3) dX6_onSheet_3 rfl (by decide) rfl ?_
  exact lp_X6_onSheet hM 7 0 (by omega) (by omega)
def isCs (day features : Int32) : Bool := inR day (nI 0) (nI 999) && inR features (nI 0) (nI 999999)
theorem SP_X6_isCase {d : Nat} {g : xG} {a b : Int32} : XM M_X6_isCase (d + 2) [.int a, .int b] (g) (xOne (some (.int (bI (isCs a b)))) (g)) := by
  refine xm_of (by decide +kernel) (Nat.le_of_ble_eq_true rfl) ?_
  show XW _ _ 0 [(0, _), (1, _)] [] _ _
  refine xw_iload_n (pc := 0) dX6_isCase_0 0 rfl ?_
  refine xw_callV (pc := 1) (xr_S (as := [_]) ok_X6_isDay rfl (by decide) q2418 q2419 dX6_isCase_1 rfl rfl (Nat.le_of_ble_eq_true rfl)) (SP_X6_isDay) ?_
  refine xw_if_eq (pc := 4) 21 dX6_isCase_4 rfl (fun hb4 => ?_) (fun hb4 => ?_)
  · replace hb4 := bI_0.mp hb4
    refine xw_iconst (v := nI 0) (pc := 21) dX6_isCase_21 rfl ?_
    refine xw_iret (pc := 22) .boolean dX6_isCase_22 rfl ?_ 
    refine ⟨congrArg (fun x => Sum.inl (some (Value.int x))) ?_, rfl⟩
    first | (change bI true = _; simp [isCs, *]; done) | (change bI false = _; simp [isCs, *]; done)
  · replace hb4 := bI_n0.mp hb4
    refine xw_iload_n (pc := 7) dX6_isCase_7 1 rfl ?_
    refine xw_iconst (v := nI 0) (pc := 8) dX6_isCase_8 rfl ?_
    refine xw_ldc (v := nI 999999) (pc := 9) dX6_isCase_9 q2507 ?_
    refine xw_callV (pc := 11) (xr_S (as := [_, _, _]) ok_X6_in rfl (by decide) q2364 q2365 dX6_isCase_11 rfl rfl (Nat.le_of_ble_eq_true rfl)) (SP_X6_in) ?_
    refine xw_if_eq (pc := 14) 21 dX6_isCase_14 rfl (fun hb14 => ?_) (fun hb14 => ?_)
    · replace hb14 := bI_0.mp hb14
      refine xw_iconst (v := nI 0) (pc := 21) dX6_isCase_21 rfl ?_
      refine xw_iret (pc := 22) .boolean dX6_isCase_22 rfl ?_ 
      refine ⟨congrArg (fun x => Sum.inl (some (Value.int x))) ?_, rfl⟩
      first | (change bI true = _; simp [isCs, *]; done) | (change bI false = _; simp [isCs, *]; done)
    · replace hb14 := bI_n0.mp hb14
      refine xw_iconst (v := nI 1) (pc := 17) dX6_isCase_17 rfl ?_
      refine xw_goto (pc := 18) 22 dX6_isCase_18 rfl ?_
      refine xw_iret (pc := 22) .boolean dX6_isCase_22 rfl ?_ 
      refine ⟨congrArg (fun x => Sum.inl (some (Value.int x))) ?_, rfl⟩
      first | (change bI true = _; simp [isCs, *]; done) | (change bI false = _; simp [isCs, *]; done)

def wrongC (S : xMS) (sc day features : Int32) : Nat := if inR sc (nI 0) (S 1 0 - nI 1) = false then 1 else if isCs day features = false then 2 else 0
theorem SP_X6_wrongCase {d : Nat} {g : xG} {m : Nat} {S : xMS} (hM : xMod g m) {a b c : Int32} : XM M_X6_wrongCase (d + 3) [.ref m, .int a, .int b, .int c] (xWith g m S) (xOne (some (.int (nI (wrongC S a b c)))) (xWith g m S)) := by
  refine xm_of (by decide +kernel) (Nat.le_of_ble_eq_true rfl) ?_
  show XW _ _ 0 [(0, _), (1, _), (2, _), (3, _)] [] _ _
  refine xw_aload_n (pc := 0) dX6_wrongCase_0 0 rfl ?_
  refine xw_iload_n (pc := 1) dX6_wrongCase_1 1 rfl ?_
  refine xw_callV (pc := 2) (xr_V (as := [_]) ok_X6_isScope rfl (by decide) q2360 q2362 qs47 (by rw [xtag_with, hM.1]; rfl) (by rw [xtag_with, hM.1]; rfl) dX6_wrongCase_2 rfl rfl (Nat.le_of_ble_eq_true rfl)) (SP_X6_isScope hM) ?_
  refine xw_if_ne (pc := 5) 12 dX6_wrongCase_5 rfl (fun hb5 => ?_) (fun hb5 => ?_)
  · replace hb5 := bI_n0.mp hb5
    refine xw_iload_n (pc := 12) dX6_wrongCase_12 2 rfl ?_
    refine xw_iload_n (pc := 13) dX6_wrongCase_13 3 rfl ?_
    refine xw_callV (pc := 14) (xr_S (as := [_, _]) ok_X6_isCase rfl (by decide) q2504 q2505 dX6_wrongCase_14 rfl rfl (Nat.le_of_ble_eq_true rfl)) (SP_X6_isCase) ?_
    refine xw_if_ne (pc := 17) 24 dX6_wrongCase_17 rfl (fun hb17 => ?_) (fun hb17 => ?_)
    · replace hb17 := bI_n0.mp hb17
      refine xw_iconst (v := nI 0) (pc := 24) dX6_wrongCase_24 rfl ?_
      refine xw_iret (pc := 25) .int dX6_wrongCase_25 rfl ?_ 
      refine ⟨congrArg (fun x => Sum.inl (some (Value.int x))) ?_, rfl⟩
      simp [wrongC, *]
    · replace hb17 := bI_0.mp hb17
      refine xw_iconst (v := nI 2) (pc := 20) dX6_wrongCase_20 rfl ?_
      refine xw_goto (pc := 21) 25 dX6_wrongCase_21 rfl ?_
      refine xw_iret (pc := 25) .int dX6_wrongCase_25 rfl ?_ 
      refine ⟨congrArg (fun x => Sum.inl (some (Value.int x))) ?_, rfl⟩
      simp [wrongC, *]
  · replace hb5 := bI_0.mp hb5
    refine xw_iconst (v := nI 1) (pc := 8) dX6_wrongCase_8 rfl ?_
    refine xw_goto (pc := 9) 25 dX6_wrongCase_9 rfl ?_
    refine xw_iret (pc := 25) .int dX6_wrongCase_25 rfl ?_ 
    refine ⟨congrArg (fun x => Sum.inl (some (Value.int x))) ?_, rfl⟩
    simp [wrongC, *]

