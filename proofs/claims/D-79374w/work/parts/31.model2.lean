/-! MODEL 2: scopes, rules, told -/
set_option maxRecDepth 100000
theorem mset_q {S : xMS} {p q j : Nat} {v : Int32} (h : q ≠ p) : mset S p j v q = S q := by
  funext i
  unfold mset
  rw [if_neg (fun e => h e.1)]
theorem mset_s {S : xMS} {p i j : Nat} {v : Int32} : mset S p j v p i = if i = j then v else S p i := by
  unfold mset
  by_cases h : i = j
  · rw [if_pos ⟨rfl, h⟩, if_pos h]
  · rw [if_neg (fun e => h e.2), if_neg h]
theorem mcpy_q {S : xMS} {p0 p1 q sp dp n : Nat} (h : q ≠ p1) : mcpy S p0 p1 sp dp n q = S q := by
  unfold mcpy
  rw [if_neg h]
theorem mcpy_s {S : xMS} {p0 p1 sp dp n : Nat} : mcpy S p0 p1 sp dp n p1 = va_cpy (S p0) (S p1) sp dp n := by
  unfold mcpy
  rw [if_pos rfl]
theorem chg_q {S : xMS} {p q : Nat} (h0 : q ≠ 0) (h4 : q ≠ 4) : chg S p q = S q := by
  unfold chg
  split
  · rw [mset_q h0, mcpy_q h4, mset_q h0, mcpy_q h4]
  · rw [mset_q h0, mcpy_q h4]
theorem chg_0 {S : xMS} {p j : Nat} : chg S p 0 j = if j = 5 then nI (if p = 8 then 8 else p + 1) else S 0 j := by
  unfold chg
  split
  · rw [mset_s, mcpy_q (by decide), mset_s, mcpy_q (by decide)]
    by_cases h : j = 5 <;> simp [h]
  · rw [mset_s, mcpy_q (by decide)]
/-- the state is kept, and the past gets it -/
def push (S : xMS) (p : Nat) : xMS := chg (mcpy S 1 2 0 0 391) p
theorem push_q {S : xMS} {p q : Nat} (h0 : q ≠ 0) (h4 : q ≠ 4) (h2 : q ≠ 2) : push S p q = S q := by
  unfold push
  rw [chg_q h0 h4, mcpy_q h2]
theorem push_0 {S : xMS} {p j : Nat} : push S p 0 j = if j = 5 then nI (if p = 8 then 8 else p + 1) else S 0 j := by
  unfold push
  rw [chg_0, mcpy_q (by decide)]
theorem inR_k {n k : Nat} (hn : n ≤ 1000) (h : k < n) : inR (nI k) (nI 0) (nI n - nI 1) = true := by
  unfold inR
  rw [nI_sub (by omega)]
  have h1 : ¬ nI k < nI 0 := nI_nlt (by omega) (by omega)
  have h2 : ¬ nI (n - 1) < nI k := nI_nlt (by omega) (by omega)
  simp [h1, h2]
theorem nI_m1 : nI 0 - nI 1 = -1 := by decide
theorem inR_ex {n : Nat} {v : Int32} (hn : n ≤ 1000) (h : inR v (nI 0) (nI n - nI 1) = true) : ∃ k, k < n ∧ v = nI k := by
  unfold inR at h
  simp only [Bool.and_eq_true, Bool.not_eq_true', decide_eq_false_iff_not] at h
  obtain ⟨j, hj, rfl⟩ := nI_of (x := v) (by intro q; exact h.1 q)
  by_cases h0 : n = 0
  · subst h0
    exact absurd (Int32.lt_of_lt_of_le (show nI 0 - nI 1 < nI 0 by decide) (nI_le (Nat.zero_le j) hj)) h.2
  · rw [nI_sub (by omega)] at h
    exact ⟨j, by
      by_cases hh : j < n
      · exact hh
      · exact absurd (nI_lt (show n - 1 < j by omega) hj) h.2, rfl⟩
theorem inR_nat {v : Int32} {b : Nat} (hb : b < 2 ^ 31) (h : inR v (nI 0) (nI b) = true) : ∃ k, k ≤ b ∧ v = nI k := by
  unfold inR at h
  simp only [Bool.and_eq_true, Bool.not_eq_true', decide_eq_false_iff_not] at h
  obtain ⟨j, hj, rfl⟩ := nI_of (x := v) (by intro q; exact h.1 q)
  exact ⟨j, by
    by_cases hh : j ≤ b
    · exact hh
    · exact absurd (nI_lt (show b < j by omega) hj) h.2, rfl⟩
theorem inR_nat' {k b : Nat} (hb : b < 2 ^ 31) (h : k ≤ b) : inR (nI k) (nI 0) (nI b) = true := by
  unfold inR
  have h1 : ¬ nI k < nI 0 := nI_nlt (by omega) (by omega)
  have h2 : ¬ nI b < nI k := nI_nlt (by omega) (by omega)
  simp [h1, h2]
def opScope (S : xMS) (n p : Nat) (v : Int32) : Int32 × xMS := if inR v (nI 0) (S 1 0 - nI 1) = false then (nI 0, mset S 0 6 (nI 1)) else if n = 10 then (nI 0, mset S 0 6 (nI 2)) else
  (nI n, mset (mset (mset (push (mset S 0 6 (nI 0)) p) 1 (3 + 2 * n) v) 1 (3 + 2 * n + 1) (-1)) 1 0 (nI (n + 1)))
theorem SP_X6_scope {d : Nat} {g : xG} {m : Nat} {S : xMS} {v : Int32} (hM : xMod g m) (n : Nat) (hn : n ≤ 10) (h0 : S 1 0 = nI n) (p : Nat) (hp : p ≤ 8) (hpm : S 0 5 = nI p) : XM M_X6_scope (d + 2) [.ref m, .int v] (xWith g m S) (xOne (some (.int (opScope S n p v).1)) (xWith g m (opScope S n p v).2)) := by
  refine xm_of (by decide +kernel) (Nat.le_of_ble_eq_true rfl) ?_
  show XW _ _ 0 [(0, _), (1, _)] [] _ _
  refine xw_aload_n (pc := 0) dX6_scope_0 0 rfl ?_
  refine xw_aload_n (pc := 1) dX6_scope_1 0 rfl ?_
  refine xw_iload_n (pc := 2) dX6_scope_2 1 rfl ?_
  refine xw_callV (pc := 3) (xr_V (as := [_]) ok_X6_isScope rfl (by decide) q2360 q2362 qs47 (by rw [xtag_with, hM.1]; rfl) (by rw [xtag_with, hM.1]; rfl) dX6_scope_3 rfl rfl (Nat.le_of_ble_eq_true rfl)) (SP_X6_isScope hM) ?_
  refine xw_if_ne (pc := 6) 13 dX6_scope_6 rfl (fun hb6 => ?_) (fun hb6 => ?_)
  · replace hb6 := bI_n0.mp hb6
    refine xw_aload_n (pc := 13) dX6_scope_13 0 rfl ?_
    refine xm_get (p := 1) (pc := 14) hM fd_X6_9 dX6_scope_14 rfl ?_
    refine xw_iconst (v := nI 0) (pc := 17) dX6_scope_17 rfl ?_
    refine xm_ialdN (v := n) (pc := 18) hM dX6_scope_18 rfl (by omega) (by exact h0) ?_
    refine xw_bipush (v := nI 10) (pc := 19) dX6_scope_19 (by decide +kernel) ?_
    refine xw_icmp_ne (pc := 21) 28 dX6_scope_21 rfl (fun hb21 => ?_) (fun hb21 => ?_)
    · replace hb21 : ¬ (n = 10) := mt (nI_eq (a := n) (b := 10) (by omega) (by omega)).mpr hb21
      refine xw_iconst (v := nI 0) (pc := 28) dX6_scope_28 rfl ?_
      refine xm_putI (pc := 29) hM fd_X6_62 (xfin_of (by decide) (by decide +kernel)) dX6_scope_29 ?_
      refine xw_aload_n (pc := 32) dX6_scope_32 0 rfl ?_
      refine xm_getN (k := 0) (pc := 33) hM fd_X6_62 dX6_scope_33 (by first | rfl | (simp [mset, mcpy]; done)) ?_
      refine xw_if_le (pc := 36) 41 dX6_scope_36 rfl (fun _ => ?_) (fun hb => absurd hb (by decide))
      refine xw_aload_n (pc := 41) dX6_scope_41 0 rfl ?_
      refine xw_callU (pc := 42) (xr_V (as := []) ok_X6_keepState rfl (by decide) q2367 q2369 qs48 (by rw [xtag_with, hM.1]; rfl) (by rw [xtag_with, hM.1]; rfl) dX6_scope_42 rfl rfl (Nat.le_of_ble_eq_true rfl)) (SP_X6_keepState hM) ?_
      refine xw_aload_n (pc := 45) dX6_scope_45 0 rfl ?_
      refine xw_callU (pc := 46) (xr_V (as := []) ok_X6_change rfl (by decide) q2372 q2374 qs49 (by rw [xtag_with, hM.1]; rfl) (by rw [xtag_with, hM.1]; rfl) dX6_scope_46 rfl rfl (Nat.le_of_ble_eq_true rfl)) (SP_X6_change hM p hp (by simp [mset_q, mset_s, mcpy_q, mcpy_s, chg_q, chg_0, push_q, push_0]; exact hpm)) ?_
      refine xw_aload_n (pc := 49) dX6_scope_49 0 rfl ?_
      refine xm_get (p := 1) (pc := 50) hM fd_X6_9 dX6_scope_50 rfl ?_
      refine xw_iconst (v := nI 0) (pc := 53) dX6_scope_53 rfl ?_
      refine xm_ialdN (v := n) (pc := 54) hM dX6_scope_54 rfl (by omega) (by simp [mset_q, mset_s, mcpy_q, mcpy_s, chg_q, chg_0, push_q, push_0, h0] <;> (intros; omega)) ?_
      refine xw_istore_n (l' := [(2, _), (0, _), (1, _)]) (pc := 55) dX6_scope_55 rfl (by decide) rfl ?_
      refine xw_aload_n (pc := 56) dX6_scope_56 1 rfl ?_
      refine xm_get (p := 1) (pc := 57) hM fd_X6_9 dX6_scope_57 rfl ?_
      refine xw_iconst (v := nI 3) (pc := 60) dX6_scope_60 rfl ?_
      refine xw_iconst (v := nI 2) (pc := 61) dX6_scope_61 rfl ?_
      refine xw_iload_n (pc := 62) dX6_scope_62 0 rfl ?_
      refine xn_imul (pc := 63) dX6_scope_63 ?_
      refine xn_iadd (pc := 64) dX6_scope_64 ?_
      refine xw_iload_n (pc := 65) dX6_scope_65 2 rfl ?_
      refine xm_iast (pc := 66) hM dX6_scope_66 rfl (by omega) ?_
      refine xw_aload_n (pc := 67) dX6_scope_67 1 rfl ?_
      refine xm_get (p := 1) (pc := 68) hM fd_X6_9 dX6_scope_68 rfl ?_
      refine xw_iconst (v := nI 3) (pc := 71) dX6_scope_71 rfl ?_
      refine xw_iconst (v := nI 2) (pc := 72) dX6_scope_72 rfl ?_
      refine xw_iload_n (pc := 73) dX6_scope_73 0 rfl ?_
      refine xn_imul (pc := 74) dX6_scope_74 ?_
      refine xn_iadd (pc := 75) dX6_scope_75 ?_
      refine xw_iconst (v := nI 1) (pc := 76) dX6_scope_76 rfl ?_
      refine xn_iadd (pc := 77) dX6_scope_77 ?_
      refine xw_iconst (v := -1) (pc := 78) dX6_scope_78 (by decide +kernel) ?_
      refine xm_iast (pc := 79) hM dX6_scope_79 rfl (by omega) ?_
      refine xw_aload_n (pc := 80) dX6_scope_80 1 rfl ?_
      refine xm_get (p := 1) (pc := 81) hM fd_X6_9 dX6_scope_81 rfl ?_
      refine xw_iconst (v := nI 0) (pc := 84) dX6_scope_84 rfl ?_
      refine xw_dup2 (pc := 85) dX6_scope_85 rfl rfl ?_
      refine xm_ialdN (v := n) (pc := 86) hM dX6_scope_86 rfl (by omega) (by simp [mset_q, mset_s, mcpy_q, mcpy_s, chg_q, chg_0, push_q, push_0, h0] <;> (intros; omega)) ?_
      refine xw_iconst (v := nI 1) (pc := 87) dX6_scope_87 rfl ?_
      refine xn_iadd (pc := 88) dX6_scope_88 ?_
      refine xm_iast (pc := 89) hM dX6_scope_89 rfl (by omega) ?_
      refine xw_iload_n (pc := 90) dX6_scope_90 0 rfl ?_
      refine xw_iret (pc := 91) .int dX6_scope_91 rfl ?_ 
      refine ⟨?_, ?_⟩ <;> simp_all [opScope, push]
    · replace hb21 : n = 10 := (nI_eq (a := n) (b := 10) (by omega) (by omega)).mp hb21
      refine xw_iconst (v := nI 2) (pc := 24) dX6_scope_24 rfl ?_
      refine xw_goto (pc := 25) 29 dX6_scope_25 rfl ?_
      refine xm_putI (pc := 29) hM fd_X6_62 (xfin_of (by decide) (by decide +kernel)) dX6_scope_29 ?_
      refine xw_aload_n (pc := 32) dX6_scope_32 0 rfl ?_
      refine xm_getN (k := 2) (pc := 33) hM fd_X6_62 dX6_scope_33 (by first | rfl | (simp [mset, mcpy]; done)) ?_
      refine xw_if_le (pc := 36) 41 dX6_scope_36 rfl (fun hb => absurd hb (by decide)) (fun _ => ?_)
      refine xw_iconst (v := nI 0) (pc := 39) dX6_scope_39 rfl ?_
      refine xw_iret (pc := 40) .int dX6_scope_40 rfl ?_ 
      refine ⟨?_, ?_⟩ <;> simp_all [opScope, push]
  · replace hb6 := bI_0.mp hb6
    refine xw_iconst (v := nI 1) (pc := 9) dX6_scope_9 rfl ?_
    refine xw_goto (pc := 10) 29 dX6_scope_10 rfl ?_
    refine xm_putI (pc := 29) hM fd_X6_62 (xfin_of (by decide) (by decide +kernel)) dX6_scope_29 ?_
    refine xw_aload_n (pc := 32) dX6_scope_32 0 rfl ?_
    refine xm_getN (k := 1) (pc := 33) hM fd_X6_62 dX6_scope_33 (by first | rfl | (simp [mset, mcpy]; done)) ?_
    refine xw_if_le (pc := 36) 41 dX6_scope_36 rfl (fun hb => absurd hb (by decide)) (fun _ => ?_)
    refine xw_iconst (v := nI 0) (pc := 39) dX6_scope_39 rfl ?_
    refine xw_iret (pc := 40) .int dX6_scope_40 rfl ?_ 
    refine ⟨?_, ?_⟩ <;> simp_all [opScope, push]

theorem nI_c {k : Nat} (h : k < 2 ^ 31) : (nI k).toNatClampNeg = k := nI_clamp h
theorem SP_X6_ofN {d : Nat} {g : xG} {m : Nat} {S : xMS} (hM : xMod g m) (r w v : Nat) (hr : 23 + 20 * r + w < 391) (h : S 1 (23 + 20 * r + w) = nI v) : XM M_X6_of (d + 1) [.ref m, .int (nI r), .int (nI w)] (xWith g m S) (xOne (some (.int (nI v))) (xWith g m S)) := by
  rw [← h]
  exact SP_X6_of hM r w hr
theorem SP_X6_isScopeK {d : Nat} {g : xG} {m : Nat} {S : xMS} (hM : xMod g m) (k n : Nat) (hn : n ≤ 10) (hk : k < n) (h0 : S 1 0 = nI n) : XM M_X6_isScope (d + 1) [.ref m, .int (nI k)] (xWith g m S) (xOne (some (.int (bI true))) (xWith g m S)) := by
  have h := SP_X6_isScope (d := d) (g := g) (m := m) (S := S) hM (v := nI k)
  rw [h0, inR_k (by omega) hk] at h
  exact h
theorem SP_X6_isScopeF {d : Nat} {g : xG} {m : Nat} {S : xMS} (hM : xMod g m) {v : Int32} (n : Nat) (h0 : S 1 0 = nI n) (hv : ¬ inR v (nI 0) (nI n - nI 1) = true) : XM M_X6_isScope (d + 1) [.ref m, .int v] (xWith g m S) (xOne (some (.int (bI false))) (xWith g m S)) := by
  have h := SP_X6_isScope (d := d) (g := g) (m := m) (S := S) hM (v := v)
  rw [h0, Bool.eq_false_iff.mpr hv] at h
  exact h
theorem SP_X6_isRuleK {d : Nat} {g : xG} {m : Nat} {S : xMS} (hM : xMod g m) (k n : Nat) (hn : n ≤ 16) (hk : k < n) (h0 : S 1 1 = nI n) : XM M_X6_isRule (d + 1) [.ref m, .int (nI k)] (xWith g m S) (xOne (some (.int (bI true))) (xWith g m S)) := by
  have h := SP_X6_isRule (d := d) (g := g) (m := m) (S := S) hM (v := nI k)
  rw [h0, inR_k (by omega) hk] at h
  exact h
theorem SP_X6_isRuleF {d : Nat} {g : xG} {m : Nat} {S : xMS} (hM : xMod g m) {v : Int32} (n : Nat) (h0 : S 1 1 = nI n) (hv : ¬ inR v (nI 0) (nI n - nI 1) = true) : XM M_X6_isRule (d + 1) [.ref m, .int v] (xWith g m S) (xOne (some (.int (bI false))) (xWith g m S)) := by
  have h := SP_X6_isRule (d := d) (g := g) (m := m) (S := S) hM (v := v)
  rw [h0, Bool.eq_false_iff.mpr hv] at h
  exact h
theorem SP_X6_isWorkK {d : Nat} {g : xG} {m : Nat} {S : xMS} (hM : xMod g m) (k n : Nat) (hn : n ≤ 16) (hk : k < n) (h0 : S 1 2 = nI n) : XM M_X6_isWork (d + 1) [.ref m, .int (nI k)] (xWith g m S) (xOne (some (.int (bI true))) (xWith g m S)) := by
  have h := SP_X6_isWork (d := d) (g := g) (m := m) (S := S) hM (v := nI k)
  rw [h0, inR_k (by omega) hk] at h
  exact h
theorem SP_X6_isWorkF {d : Nat} {g : xG} {m : Nat} {S : xMS} (hM : xMod g m) {v : Int32} (n : Nat) (h0 : S 1 2 = nI n) (hv : ¬ inR v (nI 0) (nI n - nI 1) = true) : XM M_X6_isWork (d + 1) [.ref m, .int v] (xWith g m S) (xOne (some (.int (bI false))) (xWith g m S)) := by
  have h := SP_X6_isWork (d := d) (g := g) (m := m) (S := S) hM (v := v)
  rw [h0, Bool.eq_false_iff.mpr hv] at h
  exact h
theorem SP_X6_inT {d : Nat} {g : xG} {v lo hi : Int32} (h : inR v lo hi = true) : XM M_X6_in d [.int v, .int lo, .int hi] g (xOne (some (.int (bI true))) g) := by rw [← h]; exact SP_X6_in
theorem SP_X6_inF {d : Nat} {g : xG} {v lo hi : Int32} (h : ¬ inR v lo hi = true) : XM M_X6_in d [.int v, .int lo, .int hi] g (xOne (some (.int (bI false))) g) := by rw [← Bool.eq_false_iff.mpr h]; exact SP_X6_in
def opSetDef (S : xMS) (p k : Nat) (e : Int32) : Int32 × xMS := if inR e (if k = 0 then nI 0 else -1) (nI 2) = false then (nI 0, mset S 0 6 (nI 2)) else
  (S 1 (3 + 2 * k + 1), mset (push (mset S 0 6 (nI 0)) p) 1 (3 + 2 * k + 1) e)
theorem SP_X6_setDefault_F {d : Nat} {g : xG} {m : Nat} {S : xMS} (hM : xMod g m) (n : Nat) (hn : n ≤ 10) (h0 : S 1 0 = nI n) (v : Int32) (hv : ¬ inR v (nI 0) (nI n - nI 1) = true) (e : Int32) : XM M_X6_setDefault (d + 2) [.ref m, .int v, .int e] (xWith g m S) (xOne (some (.int (nI 0))) (xWith g m (mset S 0 6 (nI 1)))) := by
  refine xm_of (by decide +kernel) (Nat.le_of_ble_eq_true rfl) ?_
  show XW _ _ 0 [(0, _), (1, _), (2, _)] [] _ _
  refine xw_aload_n (pc := 0) dX6_setDefault_0 0 rfl ?_
  refine xw_aload_n (pc := 1) dX6_setDefault_1 0 rfl ?_
  refine xw_iload_n (pc := 2) dX6_setDefault_2 1 rfl ?_
  refine xw_callV (pc := 3) (xr_V (as := [_]) ok_X6_isScope rfl (by decide) q2360 q2362 qs47 (by rw [xtag_with, hM.1]; rfl) (by rw [xtag_with, hM.1]; rfl) dX6_setDefault_3 rfl rfl (Nat.le_of_ble_eq_true rfl)) (SP_X6_isScopeF hM n h0 (by assumption)) ?_
  refine xw_if_ne (pc := 6) 13 dX6_setDefault_6 rfl (fun hb => absurd hb (by decide)) (fun _ => ?_)
  refine xw_iconst (v := nI 1) (pc := 9) dX6_setDefault_9 rfl ?_
  refine xw_goto (pc := 10) 35 dX6_setDefault_10 rfl ?_
  refine xm_putI (pc := 35) hM fd_X6_62 (xfin_of (by decide) (by decide +kernel)) dX6_setDefault_35 ?_
  refine xw_aload_n (pc := 38) dX6_setDefault_38 0 rfl ?_
  refine xm_getN (k := 1) (pc := 39) hM fd_X6_62 dX6_setDefault_39 (by first | rfl | (simp [mset, mcpy]; done)) ?_
  refine xw_if_le (pc := 42) 47 dX6_setDefault_42 rfl (fun hb => absurd hb (by decide)) (fun _ => ?_)
  refine xw_iconst (v := nI 0) (pc := 45) dX6_setDefault_45 rfl ?_
  refine xw_iret (pc := 46) .int dX6_setDefault_46 rfl ?_ 
  exact ⟨rfl, rfl⟩
theorem SP_X6_setDefault {d : Nat} {g : xG} {m : Nat} {S : xMS} (hM : xMod g m) (n : Nat) (hn : n ≤ 10) (h0 : S 1 0 = nI n) (p : Nat) (hp : p ≤ 8) (hpm : S 0 5 = nI p) (k : Nat) (hk : k < n) (e : Int32) : XM M_X6_setDefault (d + 2) [.ref m, .int (nI k), .int e] (xWith g m S) (xOne (some (.int (opSetDef S p k e).1)) (xWith g m (opSetDef S p k e).2)) := by
  refine xm_of (by decide +kernel) (Nat.le_of_ble_eq_true rfl) ?_
  show XW _ _ 0 [(0, _), (1, _), (2, _)] [] _ _
  refine xw_aload_n (pc := 0) dX6_setDefault_0 0 rfl ?_
  refine xw_aload_n (pc := 1) dX6_setDefault_1 0 rfl ?_
  refine xw_iload_n (pc := 2) dX6_setDefault_2 1 rfl ?_
  refine xw_callV (pc := 3) (xr_V (as := [_]) ok_X6_isScope rfl (by decide) q2360 q2362 qs47 (by rw [xtag_with, hM.1]; rfl) (by rw [xtag_with, hM.1]; rfl) dX6_setDefault_3 rfl rfl (Nat.le_of_ble_eq_true rfl)) (SP_X6_isScopeK hM k n hn (by assumption) (by first | exact h0 | (simp [mset_q, mset_s, mcpy_q, mcpy_s, chg_q, chg_0, push_q, push_0]; exact h0))) ?_
  refine xw_if_ne (pc := 6) 13 dX6_setDefault_6 rfl (fun _ => ?_) (fun hb => absurd hb (by decide))
  refine xw_iload_n (pc := 13) dX6_setDefault_13 2 rfl ?_
  refine xw_iload_n (pc := 14) dX6_setDefault_14 1 rfl ?_
  refine xw_if_ne (pc := 15) 22 dX6_setDefault_15 rfl (fun hb15 => ?_) (fun hb15 => ?_)
  · replace hb15 : ¬ (k = 0) := mt (nI_eq (a := k) (b := 0) (by omega) (by omega)).mpr hb15
    refine xw_iconst (v := -1) (pc := 22) dX6_setDefault_22 (by decide +kernel) ?_
    refine xw_iconst (v := nI 2) (pc := 23) dX6_setDefault_23 rfl ?_
    refine xw_callV (pc := 24) (xr_S (as := [_, _, _]) ok_X6_in rfl (by decide) q2364 q2365 dX6_setDefault_24 rfl rfl (Nat.le_of_ble_eq_true rfl)) (SP_X6_in) ?_
    refine xw_if_ne (pc := 27) 34 dX6_setDefault_27 rfl (fun hb27 => ?_) (fun hb27 => ?_)
    · replace hb27 := bI_n0.mp hb27
      refine xw_iconst (v := nI 0) (pc := 34) dX6_setDefault_34 rfl ?_
      refine xm_putI (pc := 35) hM fd_X6_62 (xfin_of (by decide) (by decide +kernel)) dX6_setDefault_35 ?_
      refine xw_aload_n (pc := 38) dX6_setDefault_38 0 rfl ?_
      refine xm_getN (k := 0) (pc := 39) hM fd_X6_62 dX6_setDefault_39 (by first | rfl | (simp [mset, mcpy]; done)) ?_
      refine xw_if_le (pc := 42) 47 dX6_setDefault_42 rfl (fun _ => ?_) (fun hb => absurd hb (by decide))
      refine xw_aload_n (pc := 47) dX6_setDefault_47 0 rfl ?_
      refine xw_callU (pc := 48) (xr_V (as := []) ok_X6_keepState rfl (by decide) q2367 q2369 qs48 (by rw [xtag_with, hM.1]; rfl) (by rw [xtag_with, hM.1]; rfl) dX6_setDefault_48 rfl rfl (Nat.le_of_ble_eq_true rfl)) (SP_X6_keepState hM) ?_
      refine xw_aload_n (pc := 51) dX6_setDefault_51 0 rfl ?_
      refine xw_callU (pc := 52) (xr_V (as := []) ok_X6_change rfl (by decide) q2372 q2374 qs49 (by rw [xtag_with, hM.1]; rfl) (by rw [xtag_with, hM.1]; rfl) dX6_setDefault_52 rfl rfl (Nat.le_of_ble_eq_true rfl)) (SP_X6_change hM p hp (by simp [mset_q, mset_s, mcpy_q, mcpy_s, chg_q, chg_0, push_q, push_0]; exact hpm)) ?_
      refine xw_aload_n (pc := 55) dX6_setDefault_55 0 rfl ?_
      refine xm_get (p := 1) (pc := 56) hM fd_X6_9 dX6_setDefault_56 rfl ?_
      refine xw_iconst (v := nI 3) (pc := 59) dX6_setDefault_59 rfl ?_
      refine xw_iconst (v := nI 2) (pc := 60) dX6_setDefault_60 rfl ?_
      refine xw_iload_n (pc := 61) dX6_setDefault_61 1 rfl ?_
      refine xn_imul (pc := 62) dX6_setDefault_62 ?_
      refine xn_iadd (pc := 63) dX6_setDefault_63 ?_
      refine xw_iconst (v := nI 1) (pc := 64) dX6_setDefault_64 rfl ?_
      refine xn_iadd (pc := 65) dX6_setDefault_65 ?_
      refine xm_iald (pc := 66) hM dX6_setDefault_66 rfl (by omega) ?_
      refine xw_istore_n (l' := [(3, _), (0, _), (1, _), (2, _)]) (pc := 67) dX6_setDefault_67 rfl (by decide) rfl ?_
      refine xw_aload_n (pc := 68) dX6_setDefault_68 1 rfl ?_
      refine xm_get (p := 1) (pc := 69) hM fd_X6_9 dX6_setDefault_69 rfl ?_
      refine xw_iconst (v := nI 3) (pc := 72) dX6_setDefault_72 rfl ?_
      refine xw_iconst (v := nI 2) (pc := 73) dX6_setDefault_73 rfl ?_
      refine xw_iload_n (pc := 74) dX6_setDefault_74 2 rfl ?_
      refine xn_imul (pc := 75) dX6_setDefault_75 ?_
      refine xn_iadd (pc := 76) dX6_setDefault_76 ?_
      refine xw_iconst (v := nI 1) (pc := 77) dX6_setDefault_77 rfl ?_
      refine xn_iadd (pc := 78) dX6_setDefault_78 ?_
      refine xw_iload_n (pc := 79) dX6_setDefault_79 3 rfl ?_
      refine xm_iast (pc := 80) hM dX6_setDefault_80 rfl (by omega) ?_
      refine xw_iload_n (pc := 81) dX6_setDefault_81 0 rfl ?_
      refine xw_iret (pc := 82) .int dX6_setDefault_82 rfl ?_ 
      refine ⟨?_, ?_⟩ <;> simp_all [opSetDef, push, mset_q, mset_s, mcpy_q, mcpy_s, chg_q, chg_0, push_q, push_0]
    · replace hb27 := bI_0.mp hb27
      refine xw_iconst (v := nI 2) (pc := 30) dX6_setDefault_30 rfl ?_
      refine xw_goto (pc := 31) 35 dX6_setDefault_31 rfl ?_
      refine xm_putI (pc := 35) hM fd_X6_62 (xfin_of (by decide) (by decide +kernel)) dX6_setDefault_35 ?_
      refine xw_aload_n (pc := 38) dX6_setDefault_38 0 rfl ?_
      refine xm_getN (k := 2) (pc := 39) hM fd_X6_62 dX6_setDefault_39 (by first | rfl | (simp [mset, mcpy]; done)) ?_
      refine xw_if_le (pc := 42) 47 dX6_setDefault_42 rfl (fun hb => absurd hb (by decide)) (fun _ => ?_)
      refine xw_iconst (v := nI 0) (pc := 45) dX6_setDefault_45 rfl ?_
      refine xw_iret (pc := 46) .int dX6_setDefault_46 rfl ?_ 
      refine ⟨?_, ?_⟩ <;> simp_all [opSetDef, push, mset_q, mset_s, mcpy_q, mcpy_s, chg_q, chg_0, push_q, push_0]
  · replace hb15 : k = 0 := (nI_eq (a := k) (b := 0) (by omega) (by omega)).mp hb15
    refine xw_iconst (v := nI 0) (pc := 18) dX6_setDefault_18 rfl ?_
    refine xw_goto (pc := 19) 23 dX6_setDefault_19 rfl ?_
    refine xw_iconst (v := nI 2) (pc := 23) dX6_setDefault_23 rfl ?_
    refine xw_callV (pc := 24) (xr_S (as := [_, _, _]) ok_X6_in rfl (by decide) q2364 q2365 dX6_setDefault_24 rfl rfl (Nat.le_of_ble_eq_true rfl)) (SP_X6_in) ?_
    refine xw_if_ne (pc := 27) 34 dX6_setDefault_27 rfl (fun hb27 => ?_) (fun hb27 => ?_)
    · replace hb27 := bI_n0.mp hb27
      refine xw_iconst (v := nI 0) (pc := 34) dX6_setDefault_34 rfl ?_
      refine xm_putI (pc := 35) hM fd_X6_62 (xfin_of (by decide) (by decide +kernel)) dX6_setDefault_35 ?_
      refine xw_aload_n (pc := 38) dX6_setDefault_38 0 rfl ?_
      refine xm_getN (k := 0) (pc := 39) hM fd_X6_62 dX6_setDefault_39 (by first | rfl | (simp [mset, mcpy]; done)) ?_
      refine xw_if_le (pc := 42) 47 dX6_setDefault_42 rfl (fun _ => ?_) (fun hb => absurd hb (by decide))
      refine xw_aload_n (pc := 47) dX6_setDefault_47 0 rfl ?_
      refine xw_callU (pc := 48) (xr_V (as := []) ok_X6_keepState rfl (by decide) q2367 q2369 qs48 (by rw [xtag_with, hM.1]; rfl) (by rw [xtag_with, hM.1]; rfl) dX6_setDefault_48 rfl rfl (Nat.le_of_ble_eq_true rfl)) (SP_X6_keepState hM) ?_
      refine xw_aload_n (pc := 51) dX6_setDefault_51 0 rfl ?_
      refine xw_callU (pc := 52) (xr_V (as := []) ok_X6_change rfl (by decide) q2372 q2374 qs49 (by rw [xtag_with, hM.1]; rfl) (by rw [xtag_with, hM.1]; rfl) dX6_setDefault_52 rfl rfl (Nat.le_of_ble_eq_true rfl)) (SP_X6_change hM p hp (by simp [mset_q, mset_s, mcpy_q, mcpy_s, chg_q, chg_0, push_q, push_0]; exact hpm)) ?_
      refine xw_aload_n (pc := 55) dX6_setDefault_55 0 rfl ?_
      refine xm_get (p := 1) (pc := 56) hM fd_X6_9 dX6_setDefault_56 rfl ?_
      refine xw_iconst (v := nI 3) (pc := 59) dX6_setDefault_59 rfl ?_
      refine xw_iconst (v := nI 2) (pc := 60) dX6_setDefault_60 rfl ?_
      refine xw_iload_n (pc := 61) dX6_setDefault_61 1 rfl ?_
      refine xn_imul (pc := 62) dX6_setDefault_62 ?_
      refine xn_iadd (pc := 63) dX6_setDefault_63 ?_
      refine xw_iconst (v := nI 1) (pc := 64) dX6_setDefault_64 rfl ?_
      refine xn_iadd (pc := 65) dX6_setDefault_65 ?_
      refine xm_iald (pc := 66) hM dX6_setDefault_66 rfl (by omega) ?_
      refine xw_istore_n (l' := [(3, _), (0, _), (1, _), (2, _)]) (pc := 67) dX6_setDefault_67 rfl (by decide) rfl ?_
      refine xw_aload_n (pc := 68) dX6_setDefault_68 1 rfl ?_
      refine xm_get (p := 1) (pc := 69) hM fd_X6_9 dX6_setDefault_69 rfl ?_
      refine xw_iconst (v := nI 3) (pc := 72) dX6_setDefault_72 rfl ?_
      refine xw_iconst (v := nI 2) (pc := 73) dX6_setDefault_73 rfl ?_
      refine xw_iload_n (pc := 74) dX6_setDefault_74 2 rfl ?_
      refine xn_imul (pc := 75) dX6_setDefault_75 ?_
      refine xn_iadd (pc := 76) dX6_setDefault_76 ?_
      refine xw_iconst (v := nI 1) (pc := 77) dX6_setDefault_77 rfl ?_
      refine xn_iadd (pc := 78) dX6_setDefault_78 ?_
      refine xw_iload_n (pc := 79) dX6_setDefault_79 3 rfl ?_
      refine xm_iast (pc := 80) hM dX6_setDefault_80 rfl (by omega) ?_
      refine xw_iload_n (pc := 81) dX6_setDefault_81 0 rfl ?_
      refine xw_iret (pc := 82) .int dX6_setDefault_82 rfl ?_ 
      refine ⟨?_, ?_⟩ <;> simp_all [opSetDef, push, mset_q, mset_s, mcpy_q, mcpy_s, chg_q, chg_0, push_q, push_0]
    · replace hb27 := bI_0.mp hb27
      refine xw_iconst (v := nI 2) (pc := 30) dX6_setDefault_30 rfl ?_
      refine xw_goto (pc := 31) 35 dX6_setDefault_31 rfl ?_
      refine xm_putI (pc := 35) hM fd_X6_62 (xfin_of (by decide) (by decide +kernel)) dX6_setDefault_35 ?_
      refine xw_aload_n (pc := 38) dX6_setDefault_38 0 rfl ?_
      refine xm_getN (k := 2) (pc := 39) hM fd_X6_62 dX6_setDefault_39 (by first | rfl | (simp [mset, mcpy]; done)) ?_
      refine xw_if_le (pc := 42) 47 dX6_setDefault_42 rfl (fun hb => absurd hb (by decide)) (fun _ => ?_)
      refine xw_iconst (v := nI 0) (pc := 45) dX6_setDefault_45 rfl ?_
      refine xw_iret (pc := 46) .int dX6_setDefault_46 rfl ?_ 
      refine ⟨?_, ?_⟩ <;> simp_all [opSetDef, push, mset_q, mset_s, mcpy_q, mcpy_s, chg_q, chg_0, push_q, push_0]
def inSc (S : xMS) (k r : Nat) : Bool := decide (S 1 (23 + 20 * r + 1) = nI k)
def opScopeOf (S : xMS) (rr k w : Nat) : Int32 := match w with
  | 0 => S 1 (3 + 2 * k)
  | 1 => nI (dep (S 1) k)
  | 2 => S 1 (3 + 2 * k + 1)
  | 3 => dfl (S 1) k
  | _ => nI (cntB (inSc S k) rr)
theorem lp_X6_scopeOf {d : Nat} {g : xG} {m : Nat} {S : xMS} (hM : xMod g m) (rr k : Nat) (hr : rr ≤ 16) (hk : k < 10) (h1 : S 1 1 = nI rr) {a : Int32} : ∀ (j r : Nat), rr - r < j → r ≤ rr → XW M_X6_scopeOf (d + 2) 108 [(4, .int (nI r)), (3, .int (nI (cntB (inSc S k) r))), (0, .ref m), (1, .int (nI k)), (2, .int a)] [] (xWith g m S) (xOne (some (.int (nI (cntB (inSc S k) rr)))) (xWith g m S)) := by
  intro j
  induction j with
  | zero => intro r h; omega
  | succ j ih =>
  intro r hj hrr
  have hcl := cntB_le (inSc S k) r
  refine xw_iload (pc := 108) dX6_scopeOf_108 0 rfl ?_
  refine xw_aload_n (pc := 110) dX6_scopeOf_110 2 rfl ?_
  refine xm_get (p := 1) (pc := 111) hM fd_X6_9 dX6_scopeOf_111 rfl ?_
  refine xw_iconst (v := nI 1) (pc := 114) dX6_scopeOf_114 rfl ?_
  refine xm_ialdN (v := rr) (pc := 115) hM dX6_scopeOf_115 rfl (by omega) (by exact h1) ?_
  refine xw_icmp_ge (pc := 116) 144 dX6_scopeOf_116 rfl (fun hb116 => ?_) (fun hb116 => ?_)
  · replace hb116 : rr ≤ r := (nI_leI (a := rr) (b := r) (by omega) (by omega)).mp hb116
    refine xw_iload_n (pc := 144) dX6_scopeOf_144 1 rfl ?_
    refine xw_iret (pc := 145) .int dX6_scopeOf_145 rfl ?_ 
    obtain rfl : r = rr := by omega
    exact ⟨rfl, rfl⟩
  · replace hb116 : ¬ (rr ≤ r) := mt (nI_leI (a := rr) (b := r) (by omega) (by omega)).mpr hb116
    refine xw_iload_n (pc := 119) dX6_scopeOf_119 1 rfl ?_
    refine xw_aload_n (pc := 120) dX6_scopeOf_120 2 rfl ?_
    refine xw_iload (pc := 121) dX6_scopeOf_121 0 rfl ?_
    refine xw_iconst (v := nI 1) (pc := 123) dX6_scopeOf_123 rfl ?_
    refine xw_callV (pc := 124) (xr_V (as := [_, _]) ok_X6_of rfl (by decide) q2396 q2398 qs53 (by rw [xtag_with, hM.1]; rfl) (by rw [xtag_with, hM.1]; rfl) dX6_scopeOf_124 rfl rfl (Nat.le_of_ble_eq_true rfl)) (SP_X6_of hM (r) (1) (by omega)) ?_
    refine xw_iload_n (pc := 127) dX6_scopeOf_127 3 rfl ?_
    refine xw_icmp_ne (pc := 128) 135 dX6_scopeOf_128 rfl (fun hb128 => ?_) (fun hb128 => ?_)
    · refine xw_iconst (v := nI 0) (pc := 135) dX6_scopeOf_135 rfl ?_
      refine xn_iadd (pc := 136) dX6_scopeOf_136 ?_
      refine xw_istore_n (l' := [(3, _), (4, _), (0, _), (1, _), (2, _)]) (pc := 137) dX6_scopeOf_137 rfl (by decide) rfl ?_
      refine xw_iinc (v := nI (r + 1)) (l' := [(4, _), (3, _), (0, _), (1, _), (2, _)]) (pc := 138) dX6_scopeOf_138 1 rfl (nI_add _ 1) (by decide) rfl ?_
      refine xw_goto (pc := 141) 108 dX6_scopeOf_141 rfl ?_
      have h := ih (r + 1) (by omega) (by omega)
      first
        | (rw [cntB_f (show inSc S k r = false by simp [inSc, *])] at h; exact h)
        | (rw [cntB_t (show inSc S k r = true by simp [inSc, *])] at h; exact h)
    · refine xw_iconst (v := nI 1) (pc := 131) dX6_scopeOf_131 rfl ?_
      refine xw_goto (pc := 132) 136 dX6_scopeOf_132 rfl ?_
      refine xn_iadd (pc := 136) dX6_scopeOf_136 ?_
      refine xw_istore_n (l' := [(3, _), (4, _), (0, _), (1, _), (2, _)]) (pc := 137) dX6_scopeOf_137 rfl (by decide) rfl ?_
      refine xw_iinc (v := nI (r + 1)) (l' := [(4, _), (3, _), (0, _), (1, _), (2, _)]) (pc := 138) dX6_scopeOf_138 1 rfl (nI_add _ 1) (by decide) rfl ?_
      refine xw_goto (pc := 141) 108 dX6_scopeOf_141 rfl ?_
      have h := ih (r + 1) (by omega) (by omega)
      first
        | (rw [cntB_f (show inSc S k r = false by simp [inSc, *])] at h; exact h)
        | (rw [cntB_t (show inSc S k r = true by simp [inSc, *])] at h; exact h)
theorem SP_X6_scopeOf_F {d : Nat} {g : xG} {m : Nat} {S : xMS} (hM : xMod g m) (n : Nat) (hn : n ≤ 10) (h0 : S 1 0 = nI n) (v : Int32) (hv : ¬ inR v (nI 0) (nI n - nI 1) = true) (e : Int32) : XM M_X6_scopeOf (d + 2) [.ref m, .int v, .int e] (xWith g m S) (xOne (some (.int (nI 0))) (xWith g m (mset S 0 6 (nI 1)))) := by
  refine xm_of (by decide +kernel) (Nat.le_of_ble_eq_true rfl) ?_
  show XW _ _ 0 [(0, _), (1, _), (2, _)] [] _ _
  refine xw_aload_n (pc := 0) dX6_scopeOf_0 0 rfl ?_
  refine xw_aload_n (pc := 1) dX6_scopeOf_1 0 rfl ?_
  refine xw_iload_n (pc := 2) dX6_scopeOf_2 1 rfl ?_
  refine xw_callV (pc := 3) (xr_V (as := [_]) ok_X6_isScope rfl (by decide) q2360 q2362 qs47 (by rw [xtag_with, hM.1]; rfl) (by rw [xtag_with, hM.1]; rfl) dX6_scopeOf_3 rfl rfl (Nat.le_of_ble_eq_true rfl)) (SP_X6_isScopeF hM n h0 (by assumption)) ?_
  refine xw_if_ne (pc := 6) 13 dX6_scopeOf_6 rfl (fun hb => absurd hb (by decide)) (fun _ => ?_)
  refine xw_iconst (v := nI 1) (pc := 9) dX6_scopeOf_9 rfl ?_
  refine xw_goto (pc := 10) 27 dX6_scopeOf_10 rfl ?_
  refine xm_putI (pc := 27) hM fd_X6_62 (xfin_of (by decide) (by decide +kernel)) dX6_scopeOf_27 ?_
  refine xw_aload_n (pc := 30) dX6_scopeOf_30 0 rfl ?_
  refine xm_getN (k := 1) (pc := 31) hM fd_X6_62 dX6_scopeOf_31 (by first | rfl | (simp [mset, mcpy]; done)) ?_
  refine xw_if_le (pc := 34) 39 dX6_scopeOf_34 rfl (fun hb => absurd hb (by decide)) (fun _ => ?_)
  refine xw_iconst (v := nI 0) (pc := 37) dX6_scopeOf_37 rfl ?_
  refine xw_iret (pc := 38) .int dX6_scopeOf_38 rfl ?_ 
  exact ⟨rfl, rfl⟩
theorem SP_X6_scopeOf_F2 {d : Nat} {g : xG} {m : Nat} {S : xMS} (hM : xMod g m) (n : Nat) (hn : n ≤ 10) (h0 : S 1 0 = nI n) (k : Nat) (hk : k < n) (e : Int32) (he : ¬ inR e (nI 0) (nI 4) = true) : XM M_X6_scopeOf (d + 2) [.ref m, .int (nI k), .int e] (xWith g m S) (xOne (some (.int (nI 0))) (xWith g m (mset S 0 6 (nI 2)))) := by
  refine xm_of (by decide +kernel) (Nat.le_of_ble_eq_true rfl) ?_
  show XW _ _ 0 [(0, _), (1, _), (2, _)] [] _ _
  refine xw_aload_n (pc := 0) dX6_scopeOf_0 0 rfl ?_
  refine xw_aload_n (pc := 1) dX6_scopeOf_1 0 rfl ?_
  refine xw_iload_n (pc := 2) dX6_scopeOf_2 1 rfl ?_
  refine xw_callV (pc := 3) (xr_V (as := [_]) ok_X6_isScope rfl (by decide) q2360 q2362 qs47 (by rw [xtag_with, hM.1]; rfl) (by rw [xtag_with, hM.1]; rfl) dX6_scopeOf_3 rfl rfl (Nat.le_of_ble_eq_true rfl)) (SP_X6_isScopeK hM k n hn (by assumption) (by first | exact h0 | (simp [mset_q, mset_s, mcpy_q, mcpy_s, chg_q, chg_0, push_q, push_0]; exact h0))) ?_
  refine xw_if_ne (pc := 6) 13 dX6_scopeOf_6 rfl (fun _ => ?_) (fun hb => absurd hb (by decide))
  refine xw_iload_n (pc := 13) dX6_scopeOf_13 2 rfl ?_
  refine xw_iconst (v := nI 0) (pc := 14) dX6_scopeOf_14 rfl ?_
  refine xw_iconst (v := nI 4) (pc := 15) dX6_scopeOf_15 rfl ?_
  refine xw_callV (pc := 16) (xr_S (as := [_, _, _]) ok_X6_in rfl (by decide) q2364 q2365 dX6_scopeOf_16 rfl rfl (Nat.le_of_ble_eq_true rfl)) (SP_X6_inF (by assumption)) ?_
  refine xw_if_ne (pc := 19) 26 dX6_scopeOf_19 rfl (fun hb => absurd hb (by decide)) (fun _ => ?_)
  refine xw_iconst (v := nI 2) (pc := 22) dX6_scopeOf_22 rfl ?_
  refine xw_goto (pc := 23) 27 dX6_scopeOf_23 rfl ?_
  refine xm_putI (pc := 27) hM fd_X6_62 (xfin_of (by decide) (by decide +kernel)) dX6_scopeOf_27 ?_
  refine xw_aload_n (pc := 30) dX6_scopeOf_30 0 rfl ?_
  refine xm_getN (k := 2) (pc := 31) hM fd_X6_62 dX6_scopeOf_31 (by first | rfl | (simp [mset, mcpy]; done)) ?_
  refine xw_if_le (pc := 34) 39 dX6_scopeOf_34 rfl (fun hb => absurd hb (by decide)) (fun _ => ?_)
  refine xw_iconst (v := nI 0) (pc := 37) dX6_scopeOf_37 rfl ?_
  refine xw_iret (pc := 38) .int dX6_scopeOf_38 rfl ?_ 
  exact ⟨rfl, rfl⟩
theorem SP_X6_scopeOf {d : Nat} {g : xG} {m : Nat} {S : xMS} (hM : xMod g m) (n : Nat) (hn : n ≤ 10) (h0 : S 1 0 = nI n) (rr : Nat) (hr : rr ≤ 16) (h1 : S 1 1 = nI rr) (hW : WFo (S 1) n) (h4 : ¬ S 1 4 < 0) (k w : Nat) (hk : k < n) (hw : w ≤ 4) : XM M_X6_scopeOf (d + 2) [.ref m, .int (nI k), .int (nI w)] (xWith g m S) (xOne (some (.int (opScopeOf S rr k w))) (xWith g m (mset S 0 6 (nI 0)))) := by
  have hin := inR_nat' (k := w) (b := 4) (by decide) hw
  have hdl := dep_le (S 1) k
  have e1 : (mset S 0 6 (nI 0)) 1 = S 1 := mset_q (by decide)
  have e2 : inSc (mset S 0 6 (nI 0)) k = inSc S k := by funext r; unfold inSc; rw [e1]
  refine xm_of (by decide +kernel) (Nat.le_of_ble_eq_true rfl) ?_
  show XW _ _ 0 [(0, _), (1, _), (2, _)] [] _ _
  refine xw_aload_n (pc := 0) dX6_scopeOf_0 0 rfl ?_
  refine xw_aload_n (pc := 1) dX6_scopeOf_1 0 rfl ?_
  refine xw_iload_n (pc := 2) dX6_scopeOf_2 1 rfl ?_
  refine xw_callV (pc := 3) (xr_V (as := [_]) ok_X6_isScope rfl (by decide) q2360 q2362 qs47 (by rw [xtag_with, hM.1]; rfl) (by rw [xtag_with, hM.1]; rfl) dX6_scopeOf_3 rfl rfl (Nat.le_of_ble_eq_true rfl)) (SP_X6_isScopeK hM k n hn (by assumption) (by first | exact h0 | (simp [mset_q, mset_s, mcpy_q, mcpy_s, chg_q, chg_0, push_q, push_0]; exact h0))) ?_
  refine xw_if_ne (pc := 6) 13 dX6_scopeOf_6 rfl (fun _ => ?_) (fun hb => absurd hb (by decide))
  refine xw_iload_n (pc := 13) dX6_scopeOf_13 2 rfl ?_
  refine xw_iconst (v := nI 0) (pc := 14) dX6_scopeOf_14 rfl ?_
  refine xw_iconst (v := nI 4) (pc := 15) dX6_scopeOf_15 rfl ?_
  refine xw_callV (pc := 16) (xr_S (as := [_, _, _]) ok_X6_in rfl (by decide) q2364 q2365 dX6_scopeOf_16 rfl rfl (Nat.le_of_ble_eq_true rfl)) (SP_X6_inT (by assumption)) ?_
  refine xw_if_ne (pc := 19) 26 dX6_scopeOf_19 rfl (fun _ => ?_) (fun hb => absurd hb (by decide))
  refine xw_iconst (v := nI 0) (pc := 26) dX6_scopeOf_26 rfl ?_
  refine xm_putI (pc := 27) hM fd_X6_62 (xfin_of (by decide) (by decide +kernel)) dX6_scopeOf_27 ?_
  refine xw_aload_n (pc := 30) dX6_scopeOf_30 0 rfl ?_
  refine xm_getN (k := 0) (pc := 31) hM fd_X6_62 dX6_scopeOf_31 (by first | rfl | (simp [mset, mcpy]; done)) ?_
  refine xw_if_le (pc := 34) 39 dX6_scopeOf_34 rfl (fun _ => ?_) (fun hb => absurd hb (by decide))
  refine xw_iload_n (pc := 39) dX6_scopeOf_39 2 rfl ?_
  by_cases hs40_0 : w = 0
  · rw [hs40_0]
    refine xw_tableIn (x := nI 0) (pc := 40) 72 dX6_scopeOf_40 (by decide) (by decide) rfl rfl ?_
    refine xw_aload_n (pc := 72) dX6_scopeOf_72 0 rfl ?_
    refine xw_iload_n (pc := 73) dX6_scopeOf_73 1 rfl ?_
    refine xw_callV (pc := 74) (xr_V (as := [_]) ok_X6_outer rfl (by decide) q2384 q2386 qs50 (by rw [xtag_with, hM.1]; rfl) (by rw [xtag_with, hM.1]; rfl) dX6_scopeOf_74 rfl rfl (Nat.le_of_ble_eq_true rfl)) (SP_X6_outer hM k (by omega)) ?_
    refine xw_iret (pc := 77) .int dX6_scopeOf_77 rfl ?_ 
    subst_vars
    exact ⟨by simp [opScopeOf, e1], rfl⟩
  by_cases hs40_1 : w = 1
  · rw [hs40_1]
    refine xw_tableIn (x := nI 1) (pc := 40) 78 dX6_scopeOf_40 (by decide) (by decide) rfl rfl ?_
    refine xw_aload_n (pc := 78) dX6_scopeOf_78 0 rfl ?_
    refine xw_iload_n (pc := 79) dX6_scopeOf_79 1 rfl ?_
    refine xw_callV (pc := 80) (xr_V (as := [_]) ok_X6_depthOf rfl (by decide) q2388 q2390 qs51 (by rw [xtag_with, hM.1]; rfl) (by rw [xtag_with, hM.1]; rfl) dX6_scopeOf_80 rfl rfl (Nat.le_of_ble_eq_true rfl)) (SP_X6_depthOf hM (n := n) (by rw [e1]; exact hW) hn k hk) ?_
    refine xw_iret (pc := 83) .int dX6_scopeOf_83 rfl ?_ 
    subst_vars
    exact ⟨by simp [opScopeOf, e1], rfl⟩
  by_cases hs40_2 : w = 2
  · rw [hs40_2]
    refine xw_tableIn (x := nI 2) (pc := 40) 84 dX6_scopeOf_40 (by decide) (by decide) rfl rfl ?_
    refine xw_aload_n (pc := 84) dX6_scopeOf_84 0 rfl ?_
    refine xm_get (p := 1) (pc := 85) hM fd_X6_9 dX6_scopeOf_85 rfl ?_
    refine xw_iconst (v := nI 3) (pc := 88) dX6_scopeOf_88 rfl ?_
    refine xw_iconst (v := nI 2) (pc := 89) dX6_scopeOf_89 rfl ?_
    refine xw_iload_n (pc := 90) dX6_scopeOf_90 1 rfl ?_
    refine xn_imul (pc := 91) dX6_scopeOf_91 ?_
    refine xn_iadd (pc := 92) dX6_scopeOf_92 ?_
    refine xw_iconst (v := nI 1) (pc := 93) dX6_scopeOf_93 rfl ?_
    refine xn_iadd (pc := 94) dX6_scopeOf_94 ?_
    refine xm_iald (pc := 95) hM dX6_scopeOf_95 rfl (by omega) ?_
    refine xw_iret (pc := 96) .int dX6_scopeOf_96 rfl ?_ 
    subst_vars
    exact ⟨by simp [opScopeOf, e1], rfl⟩
  by_cases hs40_3 : w = 3
  · rw [hs40_3]
    refine xw_tableIn (x := nI 3) (pc := 40) 97 dX6_scopeOf_40 (by decide) (by decide) rfl rfl ?_
    refine xw_aload_n (pc := 97) dX6_scopeOf_97 0 rfl ?_
    refine xw_iload_n (pc := 98) dX6_scopeOf_98 1 rfl ?_
    refine xw_callV (pc := 99) (xr_V (as := [_]) ok_X6_defaultFor rfl (by decide) q2392 q2394 qs52 (by rw [xtag_with, hM.1]; rfl) (by rw [xtag_with, hM.1]; rfl) dX6_scopeOf_99 rfl rfl (Nat.le_of_ble_eq_true rfl)) (SP_X6_defaultFor hM (n := n) (by rw [e1]; exact hW) hn (by rw [e1]; exact h4) k hk) ?_
    refine xw_iret (pc := 102) .int dX6_scopeOf_102 rfl ?_ 
    subst_vars
    exact ⟨by simp [opScopeOf, e1], rfl⟩
  refine xw_tableOut (pc := 40) 103 dX6_scopeOf_40 (by first | (rw [nI_toInt (by omega)]; right; omega) | exact xt_out4 hs40_0 hs40_1 hs40_2 hs40_3) rfl ?_
  refine xw_iconst (v := nI 0) (pc := 103) dX6_scopeOf_103 rfl ?_
  refine xw_istore_n (l' := [(3, _), (0, _), (1, _), (2, _)]) (pc := 104) dX6_scopeOf_104 rfl (by decide) rfl ?_
  refine xw_iconst (v := nI 0) (pc := 105) dX6_scopeOf_105 rfl ?_
  refine xw_istore (l' := [(4, _), (3, _), (0, _), (1, _), (2, _)]) (pc := 106) dX6_scopeOf_106 (by decide) rfl ?_
  have e3 : opScopeOf S rr k w = nI (cntB (inSc S k) rr) := by
    obtain rfl : w = 4 := by omega
    rfl
  rw [e3, ← e2]
  exact lp_X6_scopeOf hM rr k hr (by omega) (by rw [e1]; exact h1) (rr + 1) 0 (by omega) (by omega)
theorem SP_X6_isWithin_F {d : Nat} {g : xG} {m : Nat} {S : xMS} (hM : xMod g m) (n : Nat) (hn : n ≤ 10) (h0 : S 1 0 = nI n) (v : Int32) (hv : ¬ inR v (nI 0) (nI n - nI 1) = true) (e : Int32) : XM M_X6_isWithin (d + 2) [.ref m, .int v, .int e] (xWith g m S) (xOne (some (.int (nI 0))) (xWith g m (mset S 0 6 (nI 1)))) := by
  refine xm_of (by decide +kernel) (Nat.le_of_ble_eq_true rfl) ?_
  show XW _ _ 0 [(0, _), (1, _), (2, _)] [] _ _
  refine xw_aload_n (pc := 0) dX6_isWithin_0 0 rfl ?_
  refine xw_aload_n (pc := 1) dX6_isWithin_1 0 rfl ?_
  refine xw_iload_n (pc := 2) dX6_isWithin_2 1 rfl ?_
  refine xw_callV (pc := 3) (xr_V (as := [_]) ok_X6_isScope rfl (by decide) q2360 q2362 qs47 (by rw [xtag_with, hM.1]; rfl) (by rw [xtag_with, hM.1]; rfl) dX6_isWithin_3 rfl rfl (Nat.le_of_ble_eq_true rfl)) (SP_X6_isScopeF hM n h0 (by assumption)) ?_
  refine xw_if_eq (pc := 6) 21 dX6_isWithin_6 rfl (fun _ => ?_) (fun hb => absurd hb (by decide))
  refine xw_iconst (v := nI 1) (pc := 21) dX6_isWithin_21 rfl ?_
  refine xm_putI (pc := 22) hM fd_X6_62 (xfin_of (by decide) (by decide +kernel)) dX6_isWithin_22 ?_
  refine xw_aload_n (pc := 25) dX6_isWithin_25 0 rfl ?_
  refine xm_getN (k := 1) (pc := 26) hM fd_X6_62 dX6_isWithin_26 (by first | rfl | (simp [mset, mcpy]; done)) ?_
  refine xw_if_ne (pc := 29) 45 dX6_isWithin_29 rfl (fun _ => ?_) (fun hb => absurd hb (by decide))
  refine xw_iconst (v := nI 0) (pc := 45) dX6_isWithin_45 rfl ?_
  refine xw_iret (pc := 46) .boolean dX6_isWithin_46 rfl ?_ 
  exact ⟨rfl, rfl⟩
theorem SP_X6_isWithin_F2 {d : Nat} {g : xG} {m : Nat} {S : xMS} (hM : xMod g m) (n : Nat) (hn : n ≤ 10) (h0 : S 1 0 = nI n) (k : Nat) (hk : k < n) (v : Int32) (hv : ¬ inR v (nI 0) (nI n - nI 1) = true) : XM M_X6_isWithin (d + 2) [.ref m, .int (nI k), .int v] (xWith g m S) (xOne (some (.int (nI 0))) (xWith g m (mset S 0 6 (nI 1)))) := by
  refine xm_of (by decide +kernel) (Nat.le_of_ble_eq_true rfl) ?_
  show XW _ _ 0 [(0, _), (1, _), (2, _)] [] _ _
  refine xw_aload_n (pc := 0) dX6_isWithin_0 0 rfl ?_
  refine xw_aload_n (pc := 1) dX6_isWithin_1 0 rfl ?_
  refine xw_iload_n (pc := 2) dX6_isWithin_2 1 rfl ?_
  refine xw_callV (pc := 3) (xr_V (as := [_]) ok_X6_isScope rfl (by decide) q2360 q2362 qs47 (by rw [xtag_with, hM.1]; rfl) (by rw [xtag_with, hM.1]; rfl) dX6_isWithin_3 rfl rfl (Nat.le_of_ble_eq_true rfl)) (SP_X6_isScopeK hM k n hn (by assumption) (by first | exact h0 | (simp [mset_q, mset_s, mcpy_q, mcpy_s, chg_q, chg_0, push_q, push_0]; exact h0))) ?_
  refine xw_if_eq (pc := 6) 21 dX6_isWithin_6 rfl (fun hb => absurd hb (by decide)) (fun _ => ?_)
  refine xw_aload_n (pc := 9) dX6_isWithin_9 0 rfl ?_
  refine xw_iload_n (pc := 10) dX6_isWithin_10 2 rfl ?_
  refine xw_callV (pc := 11) (xr_V (as := [_]) ok_X6_isScope rfl (by decide) q2360 q2362 qs47 (by rw [xtag_with, hM.1]; rfl) (by rw [xtag_with, hM.1]; rfl) dX6_isWithin_11 rfl rfl (Nat.le_of_ble_eq_true rfl)) (SP_X6_isScopeF hM n h0 (by assumption)) ?_
  refine xw_if_eq (pc := 14) 21 dX6_isWithin_14 rfl (fun _ => ?_) (fun hb => absurd hb (by decide))
  refine xw_iconst (v := nI 1) (pc := 21) dX6_isWithin_21 rfl ?_
  refine xm_putI (pc := 22) hM fd_X6_62 (xfin_of (by decide) (by decide +kernel)) dX6_isWithin_22 ?_
  refine xw_aload_n (pc := 25) dX6_isWithin_25 0 rfl ?_
  refine xm_getN (k := 1) (pc := 26) hM fd_X6_62 dX6_isWithin_26 (by first | rfl | (simp [mset, mcpy]; done)) ?_
  refine xw_if_ne (pc := 29) 45 dX6_isWithin_29 rfl (fun _ => ?_) (fun hb => absurd hb (by decide))
  refine xw_iconst (v := nI 0) (pc := 45) dX6_isWithin_45 rfl ?_
  refine xw_iret (pc := 46) .boolean dX6_isWithin_46 rfl ?_ 
  exact ⟨rfl, rfl⟩
theorem SP_X6_isWithin {d : Nat} {g : xG} {m : Nat} {S : xMS} (hM : xMod g m) (n : Nat) (hn : n ≤ 10) (h0 : S 1 0 = nI n) (hW : WFo (S 1) n) (k o : Nat) (hk : k < n) (ho : o < n) : XM M_X6_isWithin (d + 2) [.ref m, .int (nI k), .int (nI o)] (xWith g m S) (xOne (some (.int (bI (wit (S 1) k o)))) (xWith g m (mset S 0 6 (nI 0)))) := by
  have e1 : (mset S 0 6 (nI 0)) 1 = S 1 := mset_q (by decide)
  refine xm_of (by decide +kernel) (Nat.le_of_ble_eq_true rfl) ?_
  show XW _ _ 0 [(0, _), (1, _), (2, _)] [] _ _
  refine xw_aload_n (pc := 0) dX6_isWithin_0 0 rfl ?_
  refine xw_aload_n (pc := 1) dX6_isWithin_1 0 rfl ?_
  refine xw_iload_n (pc := 2) dX6_isWithin_2 1 rfl ?_
  refine xw_callV (pc := 3) (xr_V (as := [_]) ok_X6_isScope rfl (by decide) q2360 q2362 qs47 (by rw [xtag_with, hM.1]; rfl) (by rw [xtag_with, hM.1]; rfl) dX6_isWithin_3 rfl rfl (Nat.le_of_ble_eq_true rfl)) (SP_X6_isScopeK hM k n hn (by assumption) (by first | exact h0 | (simp [mset_q, mset_s, mcpy_q, mcpy_s, chg_q, chg_0, push_q, push_0]; exact h0))) ?_
  refine xw_if_eq (pc := 6) 21 dX6_isWithin_6 rfl (fun hb => absurd hb (by decide)) (fun _ => ?_)
  refine xw_aload_n (pc := 9) dX6_isWithin_9 0 rfl ?_
  refine xw_iload_n (pc := 10) dX6_isWithin_10 2 rfl ?_
  refine xw_callV (pc := 11) (xr_V (as := [_]) ok_X6_isScope rfl (by decide) q2360 q2362 qs47 (by rw [xtag_with, hM.1]; rfl) (by rw [xtag_with, hM.1]; rfl) dX6_isWithin_11 rfl rfl (Nat.le_of_ble_eq_true rfl)) (SP_X6_isScopeK hM o n hn (by assumption) (by first | exact h0 | (simp [mset_q, mset_s, mcpy_q, mcpy_s, chg_q, chg_0, push_q, push_0]; exact h0))) ?_
  refine xw_if_eq (pc := 14) 21 dX6_isWithin_14 rfl (fun hb => absurd hb (by decide)) (fun _ => ?_)
  refine xw_iconst (v := nI 0) (pc := 17) dX6_isWithin_17 rfl ?_
  refine xw_goto (pc := 18) 22 dX6_isWithin_18 rfl ?_
  refine xm_putI (pc := 22) hM fd_X6_62 (xfin_of (by decide) (by decide +kernel)) dX6_isWithin_22 ?_
  refine xw_aload_n (pc := 25) dX6_isWithin_25 0 rfl ?_
  refine xm_getN (k := 0) (pc := 26) hM fd_X6_62 dX6_isWithin_26 (by first | rfl | (simp [mset, mcpy]; done)) ?_
  refine xw_if_ne (pc := 29) 45 dX6_isWithin_29 rfl (fun hb => absurd hb (by decide)) (fun _ => ?_)
  refine xw_aload_n (pc := 32) dX6_isWithin_32 0 rfl ?_
  refine xw_iload_n (pc := 33) dX6_isWithin_33 1 rfl ?_
  refine xw_iload_n (pc := 34) dX6_isWithin_34 2 rfl ?_
  refine xw_callV (pc := 35) (xr_V (as := [_, _]) ok_X6_within rfl (by decide) q2407 q2409 qs54 (by rw [xtag_with, hM.1]; rfl) (by rw [xtag_with, hM.1]; rfl) dX6_isWithin_35 rfl rfl (Nat.le_of_ble_eq_true rfl)) (SP_X6_within hM (n := n) (by rw [e1]; exact hW) hn k hk (by omega)) ?_
  refine xw_if_eq (pc := 38) 45 dX6_isWithin_38 rfl (fun hb38 => ?_) (fun hb38 => ?_)
  · replace hb38 := bI_0.mp hb38
    refine xw_iconst (v := nI 0) (pc := 45) dX6_isWithin_45 rfl ?_
    refine xw_iret (pc := 46) .boolean dX6_isWithin_46 rfl ?_ 
    refine ⟨congrArg (fun x => Sum.inl (some (Value.int x))) ?_, rfl⟩
    rw [e1] at hb38
    rw [hb38]
    rfl
  · replace hb38 := bI_n0.mp hb38
    refine xw_iconst (v := nI 1) (pc := 41) dX6_isWithin_41 rfl ?_
    refine xw_goto (pc := 42) 46 dX6_isWithin_42 rfl ?_
    refine xw_iret (pc := 46) .boolean dX6_isWithin_46 rfl ?_ 
    refine ⟨congrArg (fun x => Sum.inl (some (Value.int x))) ?_, rfl⟩
    rw [e1] at hb38
    rw [hb38]
    rfl
