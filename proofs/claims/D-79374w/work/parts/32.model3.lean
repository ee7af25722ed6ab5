/-! MODEL 3: rules, told -/
set_option maxRecDepth 100000
/-- the number of nat that stands at j -/
def aN (s : Nat → Int32) (j : Nat) : Nat := (s j).toNatClampNeg
def isN (s : Nat → Int32) (j b : Nat) : Prop := s j = nI (aN s j) ∧ aN s j < b
/-- each rule's scope is one -/
def WFsc (s : Nat → Int32) (n rr : Nat) : Prop := ∀ r, r < rr → isN s (24 + 20 * r) n
/-- each rule's tests -/
def WFt (s : Nat → Int32) (rr : Nat) : Prop := ∀ r, r < rr → isN s (30 + 20 * r) 5 ∧ ∀ k, k < aN s (30 + 20 * r) → isN s (31 + 20 * r + 3 * k) 6 ∧ isN s (32 + 20 * r + 3 * k) 4 ∧ isN s (33 + 20 * r + 3 * k) 10
/-- why a rule is hindered, and its detail: without a parent; with the parent q -/
def hind0 (rr : Nat) (first last : Int32) : Nat × Int32 := if rr = 16 then (2, nI 0) else if last < first then (3, first) else (0, nI 0)
def hindQ (s : Nat → Int32) (rr q k : Nat) (first last : Int32) : Nat × Int32 := if rr = 16 then (2, nI 0) else if last < first then (3, first) else
  if wit s k (aN s (24 + 20 * q)) = false then (4, s (24 + 20 * q)) else if rdep s q = 4 then (5, nI 0) else (0, nI 0)
def mzero (S : xMS) (p a k : Nat) : xMS := fun q i => if q = p ∧ a ≤ i ∧ i < a + k then nI 0 else S q i
theorem mzero_q {S : xMS} {p a k q : Nat} (h : q ≠ p) : mzero S p a k q = S q := by
  funext i
  unfold mzero
  rw [if_neg (fun e => h e.1)]
theorem mzero_s {S : xMS} {p a k i : Nat} : mzero S p a k p i = if a ≤ i ∧ i < a + k then nI 0 else S p i := by
  unfold mzero
  by_cases h : a ≤ i ∧ i < a + k
  · rw [if_pos ⟨rfl, h⟩, if_pos h]
  · rw [if_neg (fun e => h e.2), if_neg h]
theorem mzero_S {S : xMS} {p a k : Nat} : mset (mzero S p a k) p (a + k) (nI 0) = mzero S p a (k + 1) := by
  funext q i
  unfold mset mzero
  by_cases hq : q = p
  · by_cases hi : i = a + k
    · rw [if_pos ⟨hq, hi⟩, if_pos ⟨hq, by omega, by omega⟩]
    · rw [if_neg (fun e => hi e.2)]
      by_cases hb : a ≤ i ∧ i < a + k
      · rw [if_pos ⟨hq, hb⟩, if_pos ⟨hq, by omega, by omega⟩]
      · rw [if_neg (fun e => hb e.2), if_neg (fun e => hb ⟨e.2.1, by omega⟩)]
  · rw [if_neg (fun e => hq e.1), if_neg (fun e => hq e.1), if_neg (fun e => hq e.1)]
def putR (S : xMS) (rr : Nat) (e par sc rank first last : Int32) : xMS :=
  mset (mset (mset (mset (mset (mset (mset (mset (mzero S 1 (23 + 20 * rr) 20) 1 (23 + 20 * rr + 0) e) 1 (23 + 20 * rr + 1) sc) 1 (23 + 20 * rr + 2) rank) 1 (23 + 20 * rr + 3) first) 1 (23 + 20 * rr + 4) last) 1 (23 + 20 * rr + 5) par) 1 (23 + 20 * rr + 6) (nI 100)) 1 1 (nI (rr + 1))
theorem SP_X6_hinders0 {d : Nat} {g : xG} {m : Nat} {S : xMS} (hM : xMod g m) (rr : Nat) (hr : rr ≤ 16) (h1 : S 1 1 = nI rr) (first last : Int32) {sc : Int32} : XM M_X6_hinders (d + 3) [.ref m, .int (-1), .int sc, .int first, .int last] (xWith g m S) (xOne (some (.int (nI (hind0 rr first last).1))) (xWith g m (mset S 0 9 (hind0 rr first last).2))) := by
  refine xm_of (by decide +kernel) (Nat.le_of_ble_eq_true rfl) ?_
  show XW _ _ 0 [(0, _), (1, _), (2, _), (3, _), (4, _)] [] _ _
  refine xw_aload_n (pc := 0) dX6_hinders_0 0 rfl ?_
  refine xm_get (p := 1) (pc := 1) hM fd_X6_9 dX6_hinders_1 rfl ?_
  refine xw_iconst (v := nI 1) (pc := 4) dX6_hinders_4 rfl ?_
  refine xm_ialdN (v := rr) (pc := 5) hM dX6_hinders_5 rfl (by omega) (by exact h1) ?_
  refine xw_bipush (v := nI 16) (pc := 6) dX6_hinders_6 (by decide +kernel) ?_
  refine xw_icmp_ne (pc := 8) 18 dX6_hinders_8 rfl (fun hb8 => ?_) (fun hb8 => ?_)
  · replace hb8 : ¬ (rr = 16) := mt (nI_eq (a := rr) (b := 16) (by omega) (by omega)).mpr hb8
    refine xw_iload_n (pc := 18) dX6_hinders_18 3 rfl ?_
    refine xw_iload (pc := 19) dX6_hinders_19 4 rfl ?_
    refine xw_icmp_le (pc := 21) 31 dX6_hinders_21 rfl (fun hb21 => ?_) (fun hb21 => ?_)
    · refine xw_iload_n (pc := 31) dX6_hinders_31 1 rfl ?_
      refine xw_if_lt (pc := 32) 61 dX6_hinders_32 rfl (fun hb32 => ?_) (fun hb32 => ?_)
      rotate_left
      · exfalso
        exact hb32 (by decide)
      refine xw_aload_n (pc := 61) dX6_hinders_61 0 rfl ?_
      refine xw_iconst (v := nI 0) (pc := 62) dX6_hinders_62 rfl ?_
      refine xm_putI (pc := 63) hM fd_X6_115 (xfin_of (by decide) (by decide +kernel)) dX6_hinders_63 ?_
      refine xw_iload_n (pc := 66) dX6_hinders_66 1 rfl ?_
      refine xw_if_lt (pc := 67) 83 dX6_hinders_67 rfl (fun hb67 => ?_) (fun hb67 => ?_)
      rotate_left
      · exfalso
        exact hb67 (by decide)
      refine xw_iconst (v := nI 0) (pc := 83) dX6_hinders_83 rfl ?_
      refine xw_iret (pc := 84) .int dX6_hinders_84 rfl ?_ 
      refine ⟨?_, ?_⟩ <;> simp_all [hind0, ← Int32.not_lt]
    · refine xw_aload_n (pc := 24) dX6_hinders_24 0 rfl ?_
      refine xw_iload_n (pc := 25) dX6_hinders_25 3 rfl ?_
      refine xm_putI (pc := 26) hM fd_X6_115 (xfin_of (by decide) (by decide +kernel)) dX6_hinders_26 ?_
      refine xw_iconst (v := nI 3) (pc := 29) dX6_hinders_29 rfl ?_
      refine xw_iret (pc := 30) .int dX6_hinders_30 rfl ?_ 
      refine ⟨?_, ?_⟩ <;> simp_all [hind0, ← Int32.not_lt]
  · replace hb8 : rr = 16 := (nI_eq (a := rr) (b := 16) (by omega) (by omega)).mp hb8
    refine xw_aload_n (pc := 11) dX6_hinders_11 0 rfl ?_
    refine xw_iconst (v := nI 0) (pc := 12) dX6_hinders_12 rfl ?_
    refine xm_putI (pc := 13) hM fd_X6_115 (xfin_of (by decide) (by decide +kernel)) dX6_hinders_13 ?_
    refine xw_iconst (v := nI 2) (pc := 16) dX6_hinders_16 rfl ?_
    refine xw_iret (pc := 17) .int dX6_hinders_17 rfl ?_ 
    refine ⟨?_, ?_⟩ <;> simp_all [hind0, ← Int32.not_lt]
theorem SP_X6_hindersQ {d : Nat} {g : xG} {m : Nat} {S : xMS} (hM : xMod g m) (n : Nat) (hn : n ≤ 10) (rr : Nat) (hr : rr ≤ 16) (h1 : S 1 1 = nI rr) (first last : Int32) (hW : WFo (S 1) n) (hWp : WFp (S 1) rr) (hWs : WFsc (S 1) n rr) (q k : Nat) (hq : q < rr) (hk : k < n) : XM M_X6_hinders (d + 3) [.ref m, .int (nI q), .int (nI k), .int first, .int last] (xWith g m S) (xOne (some (.int (nI (hindQ (S 1) rr q k first last).1))) (xWith g m (mset S 0 9 (hindQ (S 1) rr q k first last).2))) := by
  obtain ⟨ho1, ho2⟩ := hWs q hq
  have ho3 : S 1 (23 + 20 * q + 1) = nI (aN (S 1) (24 + 20 * q)) := by rw [show 23 + 20 * q + 1 = 24 + 20 * q from by omega]; exact ho1
  have ho4 : aN (S 1) (24 + 20 * q) < 10 := by omega
  have hdl := rdep_le (mset S 0 9 (nI 0) 1) q
  have e1 : (mset S 0 9 (nI 0)) 1 = S 1 := mset_q (by decide)
  refine xm_of (by decide +kernel) (Nat.le_of_ble_eq_true rfl) ?_
  show XW _ _ 0 [(0, _), (1, _), (2, _), (3, _), (4, _)] [] _ _
  refine xw_aload_n (pc := 0) dX6_hinders_0 0 rfl ?_
  refine xm_get (p := 1) (pc := 1) hM fd_X6_9 dX6_hinders_1 rfl ?_
  refine xw_iconst (v := nI 1) (pc := 4) dX6_hinders_4 rfl ?_
  refine xm_ialdN (v := rr) (pc := 5) hM dX6_hinders_5 rfl (by omega) (by exact h1) ?_
  refine xw_bipush (v := nI 16) (pc := 6) dX6_hinders_6 (by decide +kernel) ?_
  refine xw_icmp_ne (pc := 8) 18 dX6_hinders_8 rfl (fun hb8 => ?_) (fun hb8 => ?_)
  · replace hb8 : ¬ (rr = 16) := mt (nI_eq (a := rr) (b := 16) (by omega) (by omega)).mpr hb8
    refine xw_iload_n (pc := 18) dX6_hinders_18 3 rfl ?_
    refine xw_iload (pc := 19) dX6_hinders_19 4 rfl ?_
    refine xw_icmp_le (pc := 21) 31 dX6_hinders_21 rfl (fun hb21 => ?_) (fun hb21 => ?_)
    · refine xw_iload_n (pc := 31) dX6_hinders_31 1 rfl ?_
      refine xw_if_lt (pc := 32) 61 dX6_hinders_32 rfl (fun hb32 => ?_) (fun hb32 => ?_)
      · exfalso
        replace hb32 : q < 0 := (nI_ltI (a := q) (b := 0) (by omega) (by omega)).mp hb32
        omega
      replace hb32 : ¬ (q < 0) := mt (nI_ltI (a := q) (b := 0) (by omega) (by omega)).mpr hb32
      refine xw_aload_n (pc := 35) dX6_hinders_35 0 rfl ?_
      refine xw_iload_n (pc := 36) dX6_hinders_36 2 rfl ?_
      refine xw_aload_n (pc := 37) dX6_hinders_37 0 rfl ?_
      refine xw_iload_n (pc := 38) dX6_hinders_38 1 rfl ?_
      refine xw_iconst (v := nI 1) (pc := 39) dX6_hinders_39 rfl ?_
      refine xw_callV (pc := 40) (xr_V (as := [_, _]) ok_X6_of rfl (by decide) q2396 q2398 qs53 (by rw [xtag_with, hM.1]; rfl) (by rw [xtag_with, hM.1]; rfl) dX6_hinders_40 rfl rfl (Nat.le_of_ble_eq_true rfl)) (SP_X6_ofN hM q 1 (aN (S 1) (24 + 20 * q)) (by omega) ho3) ?_
      refine xw_callV (pc := 43) (xr_V (as := [_, _]) ok_X6_within rfl (by decide) q2407 q2409 qs54 (by rw [xtag_with, hM.1]; rfl) (by rw [xtag_with, hM.1]; rfl) dX6_hinders_43 rfl rfl (Nat.le_of_ble_eq_true rfl)) (SP_X6_within hM (n := n) hW hn k hk (by omega)) ?_
      refine xw_if_ne (pc := 46) 61 dX6_hinders_46 rfl (fun hb46 => ?_) (fun hb46 => ?_)
      · replace hb46 := bI_n0.mp hb46
        refine xw_aload_n (pc := 61) dX6_hinders_61 0 rfl ?_
        refine xw_iconst (v := nI 0) (pc := 62) dX6_hinders_62 rfl ?_
        refine xm_putI (pc := 63) hM fd_X6_115 (xfin_of (by decide) (by decide +kernel)) dX6_hinders_63 ?_
        refine xw_iload_n (pc := 66) dX6_hinders_66 1 rfl ?_
        refine xw_if_lt (pc := 67) 83 dX6_hinders_67 rfl (fun hb67 => ?_) (fun hb67 => ?_)
        · exfalso
          replace hb67 : q < 0 := (nI_ltI (a := q) (b := 0) (by omega) (by omega)).mp hb67
          omega
        replace hb67 : ¬ (q < 0) := mt (nI_ltI (a := q) (b := 0) (by omega) (by omega)).mpr hb67
        refine xw_aload_n (pc := 70) dX6_hinders_70 0 rfl ?_
        refine xw_iload_n (pc := 71) dX6_hinders_71 1 rfl ?_
        refine xw_callV (pc := 72) (xr_V (as := [_]) ok_X6_depthOfRule rfl (by decide) q2429 q2431 qs57 (by rw [xtag_with, hM.1]; rfl) (by rw [xtag_with, hM.1]; rfl) dX6_hinders_72 rfl rfl (Nat.le_of_ble_eq_true rfl)) (SP_X6_depthOfRule hM (n := rr) (by rw [e1]; exact hWp) hr q hq) ?_
        refine xw_iconst (v := nI 4) (pc := 75) dX6_hinders_75 rfl ?_
        refine xw_icmp_ne (pc := 76) 83 dX6_hinders_76 rfl (fun hb76 => ?_) (fun hb76 => ?_)
        · replace hb76 : ¬ (rdep (mset S 0 9 (nI 0) 1) q = 4) := mt (nI_eq (a := rdep (mset S 0 9 (nI 0) 1) q) (b := 4) (by omega) (by omega)).mpr hb76
          refine xw_iconst (v := nI 0) (pc := 83) dX6_hinders_83 rfl ?_
          refine xw_iret (pc := 84) .int dX6_hinders_84 rfl ?_ 
          refine ⟨?_, ?_⟩ <;> simp_all [hindQ, ← Int32.not_lt]
        · replace hb76 : rdep (mset S 0 9 (nI 0) 1) q = 4 := (nI_eq (a := rdep (mset S 0 9 (nI 0) 1) q) (b := 4) (by omega) (by omega)).mp hb76
          refine xw_iconst (v := nI 5) (pc := 79) dX6_hinders_79 rfl ?_
          refine xw_goto (pc := 80) 84 dX6_hinders_80 rfl ?_
          refine xw_iret (pc := 84) .int dX6_hinders_84 rfl ?_ 
          refine ⟨?_, ?_⟩ <;> simp_all [hindQ, ← Int32.not_lt]
      · replace hb46 := bI_0.mp hb46
        refine xw_aload_n (pc := 49) dX6_hinders_49 0 rfl ?_
        refine xw_aload_n (pc := 50) dX6_hinders_50 0 rfl ?_
        refine xw_iload_n (pc := 51) dX6_hinders_51 1 rfl ?_
        refine xw_iconst (v := nI 1) (pc := 52) dX6_hinders_52 rfl ?_
        refine xw_callV (pc := 53) (xr_V (as := [_, _]) ok_X6_of rfl (by decide) q2396 q2398 qs53 (by rw [xtag_with, hM.1]; rfl) (by rw [xtag_with, hM.1]; rfl) dX6_hinders_53 rfl rfl (Nat.le_of_ble_eq_true rfl)) (SP_X6_ofN hM q 1 (aN (S 1) (24 + 20 * q)) (by omega) ho3) ?_
        refine xm_putI (pc := 56) hM fd_X6_115 (xfin_of (by decide) (by decide +kernel)) dX6_hinders_56 ?_
        refine xw_iconst (v := nI 4) (pc := 59) dX6_hinders_59 rfl ?_
        refine xw_iret (pc := 60) .int dX6_hinders_60 rfl ?_ 
        refine ⟨?_, ?_⟩ <;> simp_all [hindQ, ← Int32.not_lt]
    · refine xw_aload_n (pc := 24) dX6_hinders_24 0 rfl ?_
      refine xw_iload_n (pc := 25) dX6_hinders_25 3 rfl ?_
      refine xm_putI (pc := 26) hM fd_X6_115 (xfin_of (by decide) (by decide +kernel)) dX6_hinders_26 ?_
      refine xw_iconst (v := nI 3) (pc := 29) dX6_hinders_29 rfl ?_
      refine xw_iret (pc := 30) .int dX6_hinders_30 rfl ?_ 
      refine ⟨?_, ?_⟩ <;> simp_all [hindQ, ← Int32.not_lt]
  · replace hb8 : rr = 16 := (nI_eq (a := rr) (b := 16) (by omega) (by omega)).mp hb8
    refine xw_aload_n (pc := 11) dX6_hinders_11 0 rfl ?_
    refine xw_iconst (v := nI 0) (pc := 12) dX6_hinders_12 rfl ?_
    refine xm_putI (pc := 13) hM fd_X6_115 (xfin_of (by decide) (by decide +kernel)) dX6_hinders_13 ?_
    refine xw_iconst (v := nI 2) (pc := 16) dX6_hinders_16 rfl ?_
    refine xw_iret (pc := 17) .int dX6_hinders_17 rfl ?_ 
    refine ⟨?_, ?_⟩ <;> simp_all [hindQ, ← Int32.not_lt]
theorem lp_X6_put {d : Nat} {g : xG} {m : Nat} {S : xMS} (hM : xMod g m) {Q : Option Value ⊕ Nat → xG → Prop} {a1 a2 a3 a4 a5 a6 : Int32} {a b : Nat} (hb : a + 20 ≤ 391) : ∀ (j k : Nat), 20 - k < j → k ≤ 20 → XW M_X6_put (d + 1) 42 [(9, .int (nI 20)), (8, .int (nI a)), (7, .int (nI b)), (0, .ref m), (1, .int a1), (2, .int a2), (3, .int a3), (4, .int a4), (5, .int a5), (6, .int a6)] [] (xWith g m (mzero S 1 a 20)) Q → XW M_X6_put (d + 1) 18 [(9, .int (nI k)), (8, .int (nI a)), (7, .int (nI b)), (0, .ref m), (1, .int a1), (2, .int a2), (3, .int a3), (4, .int a4), (5, .int a5), (6, .int a6)] [] (xWith g m (mzero S 1 a k)) Q := by
  intro j
  induction j with
  | zero => intro r h; omega
  | succ j ih =>
  intro k hj hk hq
  refine xw_iload (pc := 18) dX6_put_18 0 rfl ?_
  refine xw_bipush (v := nI 20) (pc := 20) dX6_put_20 (by decide +kernel) ?_
  refine xw_icmp_ge (pc := 22) 42 dX6_put_22 rfl (fun hb22 => ?_) (fun hb22 => ?_)
  · replace hb22 : 20 ≤ k := (nI_leI (a := 20) (b := k) (by omega) (by omega)).mp hb22
    obtain rfl : k = 20 := by omega
    exact hq
  · replace hb22 : ¬ (20 ≤ k) := mt (nI_leI (a := 20) (b := k) (by omega) (by omega)).mpr hb22
    refine xw_aload_n (pc := 25) dX6_put_25 3 rfl ?_
    refine xm_get (p := 1) (pc := 26) hM fd_X6_9 dX6_put_26 rfl ?_
    refine xw_iload (pc := 29) dX6_put_29 1 rfl ?_
    refine xw_iload (pc := 31) dX6_put_31 0 rfl ?_
    refine xn_iadd (pc := 33) dX6_put_33 ?_
    refine xw_iconst (v := nI 0) (pc := 34) dX6_put_34 rfl ?_
    refine xm_iast (pc := 35) hM dX6_put_35 rfl (by omega) ?_
    refine xw_iinc (v := nI (k + 1)) (l' := [(9, _), (8, _), (7, _), (0, _), (1, _), (2, _), (3, _), (4, _), (5, _), (6, _)]) (pc := 36) dX6_put_36 0 rfl (nI_add _ 1) (by decide) rfl ?_
    refine xw_goto (pc := 39) 18 dX6_put_39 rfl ?_
    rw [mzero_S]
    exact ih (k + 1) (by omega) (by omega) hq
theorem SP_X6_put {d : Nat} {g : xG} {m : Nat} {S : xMS} (hM : xMod g m) (rr : Nat) (hr : rr < 16) (h1 : S 1 1 = nI rr) (e par sc rank first last : Int32) : XM M_X6_put (d + 1) [.ref m, .int e, .int par, .int sc, .int rank, .int first, .int last] (xWith g m S) (xOne (some (.int (nI rr))) (xWith g m (putR S rr e par sc rank first last))) := by
  have hz : xWith g m S = xWith g m (mzero S 1 (23 + 20 * rr) 0) := congrArg _ (funext fun q => funext fun x => (if_neg (by omega)).symm)
  refine xm_of (by decide +kernel) (Nat.le_of_ble_eq_true rfl) ?_
  show XW _ _ 0 [(0, _), (1, _), (2, _), (3, _), (4, _), (5, _), (6, _)] [] _ _
  refine xw_aload_n (pc := 0) dX6_put_0 0 rfl ?_
  refine xm_get (p := 1) (pc := 1) hM fd_X6_9 dX6_put_1 rfl ?_
  refine xw_iconst (v := nI 1) (pc := 4) dX6_put_4 rfl ?_
  refine xm_ialdN (v := rr) (pc := 5) hM dX6_put_5 rfl (by omega) (by exact h1) ?_
  refine xw_istore (l' := [(7, _), (0, _), (1, _), (2, _), (3, _), (4, _), (5, _), (6, _)]) (pc := 6) dX6_put_6 (by decide) rfl ?_
  refine xw_iload (pc := 8) dX6_put_8 0 rfl ?_
  refine xw_callV (pc := 10) (xr_S (as := [_]) ok_X6_at rfl (by decide) q2400 q2401 dX6_put_10 rfl rfl (Nat.le_of_ble_eq_true rfl)) (SP_X6_at (rr)) ?_
  refine xw_istore (l' := [(8, _), (7, _), (0, _), (1, _), (2, _), (3, _), (4, _), (5, _), (6, _)]) (pc := 13) dX6_put_13 (by decide) rfl ?_
  refine xw_iconst (v := nI 0) (pc := 15) dX6_put_15 rfl ?_
  refine xw_istore (l' := [(9, _), (8, _), (7, _), (0, _), (1, _), (2, _), (3, _), (4, _), (5, _), (6, _)]) (pc := 16) dX6_put_16 (by decide) rfl ?_
  rw [hz]
  refine lp_X6_put hM (by omega) 21 0 (by omega) (by omega) ?_
  refine xw_aload_n (pc := 42) dX6_put_42 3 rfl ?_
  refine xm_get (p := 1) (pc := 43) hM fd_X6_9 dX6_put_43 rfl ?_
  refine xw_iload (pc := 46) dX6_put_46 1 rfl ?_
  refine xw_iconst (v := nI 0) (pc := 48) dX6_put_48 rfl ?_
  refine xn_iadd (pc := 49) dX6_put_49 ?_
  refine xw_iload_n (pc := 50) dX6_put_50 4 rfl ?_
  refine xm_iast (pc := 51) hM dX6_put_51 rfl (by omega) ?_
  refine xw_aload_n (pc := 52) dX6_put_52 3 rfl ?_
  refine xm_get (p := 1) (pc := 53) hM fd_X6_9 dX6_put_53 rfl ?_
  refine xw_iload (pc := 56) dX6_put_56 1 rfl ?_
  refine xw_iconst (v := nI 1) (pc := 58) dX6_put_58 rfl ?_
  refine xn_iadd (pc := 59) dX6_put_59 ?_
  refine xw_iload_n (pc := 60) dX6_put_60 6 rfl ?_
  refine xm_iast (pc := 61) hM dX6_put_61 rfl (by omega) ?_
  refine xw_aload_n (pc := 62) dX6_put_62 3 rfl ?_
  refine xm_get (p := 1) (pc := 63) hM fd_X6_9 dX6_put_63 rfl ?_
  refine xw_iload (pc := 66) dX6_put_66 1 rfl ?_
  refine xw_iconst (v := nI 2) (pc := 68) dX6_put_68 rfl ?_
  refine xn_iadd (pc := 69) dX6_put_69 ?_
  refine xw_iload (pc := 70) dX6_put_70 7 rfl ?_
  refine xm_iast (pc := 72) hM dX6_put_72 rfl (by omega) ?_
  refine xw_aload_n (pc := 73) dX6_put_73 3 rfl ?_
  refine xm_get (p := 1) (pc := 74) hM fd_X6_9 dX6_put_74 rfl ?_
  refine xw_iload (pc := 77) dX6_put_77 1 rfl ?_
  refine xw_iconst (v := nI 3) (pc := 79) dX6_put_79 rfl ?_
  refine xn_iadd (pc := 80) dX6_put_80 ?_
  refine xw_iload (pc := 81) dX6_put_81 8 rfl ?_
  refine xm_iast (pc := 83) hM dX6_put_83 rfl (by omega) ?_
  refine xw_aload_n (pc := 84) dX6_put_84 3 rfl ?_
  refine xm_get (p := 1) (pc := 85) hM fd_X6_9 dX6_put_85 rfl ?_
  refine xw_iload (pc := 88) dX6_put_88 1 rfl ?_
  refine xw_iconst (v := nI 4) (pc := 90) dX6_put_90 rfl ?_
  refine xn_iadd (pc := 91) dX6_put_91 ?_
  refine xw_iload (pc := 92) dX6_put_92 9 rfl ?_
  refine xm_iast (pc := 94) hM dX6_put_94 rfl (by omega) ?_
  refine xw_aload_n (pc := 95) dX6_put_95 3 rfl ?_
  refine xm_get (p := 1) (pc := 96) hM fd_X6_9 dX6_put_96 rfl ?_
  refine xw_iload (pc := 99) dX6_put_99 1 rfl ?_
  refine xw_iconst (v := nI 5) (pc := 101) dX6_put_101 rfl ?_
  refine xn_iadd (pc := 102) dX6_put_102 ?_
  refine xw_iload_n (pc := 103) dX6_put_103 5 rfl ?_
  refine xm_iast (pc := 104) hM dX6_put_104 rfl (by omega) ?_
  refine xw_aload_n (pc := 105) dX6_put_105 3 rfl ?_
  refine xm_get (p := 1) (pc := 106) hM fd_X6_9 dX6_put_106 rfl ?_
  refine xw_iload (pc := 109) dX6_put_109 1 rfl ?_
  refine xw_bipush (v := nI 6) (pc := 111) dX6_put_111 (by decide +kernel) ?_
  refine xn_iadd (pc := 113) dX6_put_113 ?_
  refine xw_bipush (v := nI 100) (pc := 114) dX6_put_114 (by decide +kernel) ?_
  refine xm_iast (pc := 116) hM dX6_put_116 rfl (by omega) ?_
  refine xw_aload_n (pc := 117) dX6_put_117 3 rfl ?_
  refine xm_get (p := 1) (pc := 118) hM fd_X6_9 dX6_put_118 rfl ?_
  refine xw_iconst (v := nI 1) (pc := 121) dX6_put_121 rfl ?_
  refine xw_dup2 (pc := 122) dX6_put_122 rfl rfl ?_
  refine xm_ialdN (v := rr) (pc := 123) hM dX6_put_123 rfl (by omega) (by simp only [mset_s, mzero_s]; (repeat rw [if_neg (by omega)]); exact h1) ?_
  refine xw_iconst (v := nI 1) (pc := 124) dX6_put_124 rfl ?_
  refine xn_iadd (pc := 125) dX6_put_125 ?_
  refine xm_iast (pc := 126) hM dX6_put_126 rfl (by omega) ?_
  refine xw_iload (pc := 127) dX6_put_127 2 rfl ?_
  refine xw_iret (pc := 129) .int dX6_put_129 rfl ?_ 
  exact ⟨rfl, rfl⟩
def opAdd (S : xMS) (rr p : Nat) (h : Nat × Int32) (e par sc rank first last : Int32) : Int32 × xMS := if h.1 = 0 then (nI rr, putR (push (mset S 0 9 h.2) p) rr e par sc rank first last) else (nI 0, mset (mset (mset (mset S 0 9 h.2) 0 6 (nI 3)) 0 7 (nI h.1)) 0 8 h.2)
theorem hind0_rr {rr : Nat} {f l : Int32} (hr : rr ≤ 16) (h : ¬ 0 < (hind0 rr f l).1) : rr < 16 := by
  unfold hind0 at h
  split at h
  · exact absurd (by decide) h
  · omega
theorem hindQ_rr {s : Nat → Int32} {rr q k : Nat} {f l : Int32} (hr : rr ≤ 16) (h : ¬ 0 < (hindQ s rr q k f l).1) : rr < 16 := by
  unfold hindQ at h
  split at h
  · exact absurd (by decide) h
  · omega
theorem hind0_le {rr : Nat} {f l : Int32} : (hind0 rr f l).1 ≤ 5 := by
  unfold hind0
  split
  · exact Nat.le_of_ble_eq_true rfl
  · split <;> exact Nat.le_of_ble_eq_true rfl
theorem hindQ_le {s : Nat → Int32} {rr q k : Nat} {f l : Int32} : (hindQ s rr q k f l).1 ≤ 5 := by
  unfold hindQ
  split
  · exact Nat.le_of_ble_eq_true rfl
  · split
    · exact Nat.le_of_ble_eq_true rfl
    · split
      · exact Nat.le_of_ble_eq_true rfl
      · split <;> exact Nat.le_of_ble_eq_true rfl
theorem SP_X6_add0 {d : Nat} {g : xG} {m : Nat} {S : xMS} (hM : xMod g m) (rr : Nat) (hr : rr ≤ 16) (h1 : S 1 1 = nI rr) (p : Nat) (hp : p ≤ 8) (hpm : S 0 5 = nI p) (e rank first last : Int32) (sc : Int32) : XM M_X6_add (d + 4) [.ref m, .int e, .int (-1), .int sc, .int rank, .int first, .int last] (xWith g m S) (xOne (some (.int (opAdd S rr p (hind0 rr first last) e (-1) sc rank first last).1)) (xWith g m (opAdd S rr p (hind0 rr first last) e (-1) sc rank first last).2)) := by
  have hle := @hind0_le rr first last
  refine xm_of (by decide +kernel) (Nat.le_of_ble_eq_true rfl) ?_
  show XW _ _ 0 [(0, _), (1, _), (2, _), (3, _), (4, _), (5, _), (6, _)] [] _ _
  refine xw_aload_n (pc := 0) dX6_add_0 0 rfl ?_
  refine xw_iload_n (pc := 1) dX6_add_1 2 rfl ?_
  refine xw_iload_n (pc := 2) dX6_add_2 3 rfl ?_
  refine xw_iload (pc := 3) dX6_add_3 5 rfl ?_
  refine xw_iload (pc := 5) dX6_add_5 6 rfl ?_
  refine xw_callV (pc := 7) (xr_V (as := [_, _, _, _]) ok_X6_hinders rfl (by decide) q2425 q2427 qs56 (by rw [xtag_with, hM.1]; rfl) (by rw [xtag_with, hM.1]; rfl) dX6_add_7 rfl rfl (Nat.le_of_ble_eq_true rfl)) (SP_X6_hinders0 hM rr hr h1 first last) ?_
  refine xw_istore (l' := [(7, _), (0, _), (1, _), (2, _), (3, _), (4, _), (5, _), (6, _)]) (pc := 10) dX6_add_10 (by decide) rfl ?_
  refine xw_iload (pc := 12) dX6_add_12 0 rfl ?_
  refine xw_if_le (pc := 14) 29 dX6_add_14 rfl (fun hb14 => ?_) (fun hb14 => ?_)
  · replace hb14 : (hind0 rr first last).1 ≤ 0 := (nI_leI (a := (hind0 rr first last).1) (b := 0) (by omega) (by omega)).mp hb14
    refine xw_aload_n (pc := 29) dX6_add_29 1 rfl ?_
    refine xw_callU (pc := 30) (xr_V (as := []) ok_X6_keepState rfl (by decide) q2367 q2369 qs48 (by rw [xtag_with, hM.1]; rfl) (by rw [xtag_with, hM.1]; rfl) dX6_add_30 rfl rfl (Nat.le_of_ble_eq_true rfl)) (SP_X6_keepState hM) ?_
    refine xw_aload_n (pc := 33) dX6_add_33 1 rfl ?_
    refine xw_callU (pc := 34) (xr_V (as := []) ok_X6_change rfl (by decide) q2372 q2374 qs49 (by rw [xtag_with, hM.1]; rfl) (by rw [xtag_with, hM.1]; rfl) dX6_add_34 rfl rfl (Nat.le_of_ble_eq_true rfl)) (SP_X6_change hM p hp (by simp [mset_q, mset_s, mcpy_q, mcpy_s, chg_q, chg_0, push_q, push_0]; exact hpm)) ?_
    refine xw_aload_n (pc := 37) dX6_add_37 1 rfl ?_
    refine xw_iload_n (pc := 38) dX6_add_38 2 rfl ?_
    refine xw_iload_n (pc := 39) dX6_add_39 3 rfl ?_
    refine xw_iload_n (pc := 40) dX6_add_40 4 rfl ?_
    refine xw_iload (pc := 41) dX6_add_41 5 rfl ?_
    refine xw_iload (pc := 43) dX6_add_43 6 rfl ?_
    refine xw_iload (pc := 45) dX6_add_45 7 rfl ?_
    refine xw_callV (pc := 47) (xr_V (as := [_, _, _, _, _, _]) ok_X6_put rfl (by decide) q2437 q2439 qs59 (by rw [xtag_with, hM.1]; rfl) (by rw [xtag_with, hM.1]; rfl) dX6_add_47 rfl rfl (Nat.le_of_ble_eq_true rfl)) (SP_X6_put hM rr (hind0_rr (f := first) (l := last) hr (by omega)) (by simp [mset_q, mset_s, mcpy_q, mcpy_s, chg_q, chg_0, push_q, push_0]; exact h1) _ _ _ _ _ _) ?_
    refine xw_iret (pc := 50) .int dX6_add_50 rfl ?_ 
    refine ⟨?_, ?_⟩ <;> simp_all [opAdd, push, mset]
  · replace hb14 : ¬ ((hind0 rr first last).1 ≤ 0) := mt (nI_leI (a := (hind0 rr first last).1) (b := 0) (by omega) (by omega)).mpr hb14
    refine xw_aload_n (pc := 17) dX6_add_17 1 rfl ?_
    refine xw_iconst (v := nI 3) (pc := 18) dX6_add_18 rfl ?_
    refine xw_iload (pc := 19) dX6_add_19 0 rfl ?_
    refine xw_aload_n (pc := 21) dX6_add_21 1 rfl ?_
    refine xm_getI (pc := 22) hM fd_X6_115 dX6_add_22 ?_
    refine xw_callV (pc := 25) (xr_V (as := [_, _, _]) ok_X6_refuse rfl (by decide) q2433 q2435 qs58 (by rw [xtag_with, hM.1]; rfl) (by rw [xtag_with, hM.1]; rfl) dX6_add_25 rfl rfl (Nat.le_of_ble_eq_true rfl)) (SP_X6_refuse hM) ?_
    refine xw_iret (pc := 28) .int dX6_add_28 rfl ?_ 
    refine ⟨?_, ?_⟩ <;> simp_all [opAdd, push, mset]
theorem SP_X6_addQ {d : Nat} {g : xG} {m : Nat} {S : xMS} (hM : xMod g m) (n : Nat) (hn : n ≤ 10) (rr : Nat) (hr : rr ≤ 16) (h1 : S 1 1 = nI rr) (p : Nat) (hp : p ≤ 8) (hpm : S 0 5 = nI p) (e rank first last : Int32) (hW : WFo (S 1) n) (hWp : WFp (S 1) rr) (hWs : WFsc (S 1) n rr) (q k : Nat) (hq : q < rr) (hk : k < n) : XM M_X6_add (d + 4) [.ref m, .int e, .int (nI q), .int (nI k), .int rank, .int first, .int last] (xWith g m S) (xOne (some (.int (opAdd S rr p (hindQ (S 1) rr q k first last) e (nI q) (nI k) rank first last).1)) (xWith g m (opAdd S rr p (hindQ (S 1) rr q k first last) e (nI q) (nI k) rank first last).2)) := by
  have hle := @hindQ_le (S 1) rr q k first last
  refine xm_of (by decide +kernel) (Nat.le_of_ble_eq_true rfl) ?_
  show XW _ _ 0 [(0, _), (1, _), (2, _), (3, _), (4, _), (5, _), (6, _)] [] _ _
  refine xw_aload_n (pc := 0) dX6_add_0 0 rfl ?_
  refine xw_iload_n (pc := 1) dX6_add_1 2 rfl ?_
  refine xw_iload_n (pc := 2) dX6_add_2 3 rfl ?_
  refine xw_iload (pc := 3) dX6_add_3 5 rfl ?_
  refine xw_iload (pc := 5) dX6_add_5 6 rfl ?_
  refine xw_callV (pc := 7) (xr_V (as := [_, _, _, _]) ok_X6_hinders rfl (by decide) q2425 q2427 qs56 (by rw [xtag_with, hM.1]; rfl) (by rw [xtag_with, hM.1]; rfl) dX6_add_7 rfl rfl (Nat.le_of_ble_eq_true rfl)) (SP_X6_hindersQ hM n hn rr hr h1 first last hW hWp hWs q k hq hk) ?_
  refine xw_istore (l' := [(7, _), (0, _), (1, _), (2, _), (3, _), (4, _), (5, _), (6, _)]) (pc := 10) dX6_add_10 (by decide) rfl ?_
  refine xw_iload (pc := 12) dX6_add_12 0 rfl ?_
  refine xw_if_le (pc := 14) 29 dX6_add_14 rfl (fun hb14 => ?_) (fun hb14 => ?_)
  · replace hb14 : (hindQ (S 1) rr q k first last).1 ≤ 0 := (nI_leI (a := (hindQ (S 1) rr q k first last).1) (b := 0) (by omega) (by omega)).mp hb14
    refine xw_aload_n (pc := 29) dX6_add_29 1 rfl ?_
    refine xw_callU (pc := 30) (xr_V (as := []) ok_X6_keepState rfl (by decide) q2367 q2369 qs48 (by rw [xtag_with, hM.1]; rfl) (by rw [xtag_with, hM.1]; rfl) dX6_add_30 rfl rfl (Nat.le_of_ble_eq_true rfl)) (SP_X6_keepState hM) ?_
    refine xw_aload_n (pc := 33) dX6_add_33 1 rfl ?_
    refine xw_callU (pc := 34) (xr_V (as := []) ok_X6_change rfl (by decide) q2372 q2374 qs49 (by rw [xtag_with, hM.1]; rfl) (by rw [xtag_with, hM.1]; rfl) dX6_add_34 rfl rfl (Nat.le_of_ble_eq_true rfl)) (SP_X6_change hM p hp (by simp [mset_q, mset_s, mcpy_q, mcpy_s, chg_q, chg_0, push_q, push_0]; exact hpm)) ?_
    refine xw_aload_n (pc := 37) dX6_add_37 1 rfl ?_
    refine xw_iload_n (pc := 38) dX6_add_38 2 rfl ?_
    refine xw_iload_n (pc := 39) dX6_add_39 3 rfl ?_
    refine xw_iload_n (pc := 40) dX6_add_40 4 rfl ?_
    refine xw_iload (pc := 41) dX6_add_41 5 rfl ?_
    refine xw_iload (pc := 43) dX6_add_43 6 rfl ?_
    refine xw_iload (pc := 45) dX6_add_45 7 rfl ?_
    refine xw_callV (pc := 47) (xr_V (as := [_, _, _, _, _, _]) ok_X6_put rfl (by decide) q2437 q2439 qs59 (by rw [xtag_with, hM.1]; rfl) (by rw [xtag_with, hM.1]; rfl) dX6_add_47 rfl rfl (Nat.le_of_ble_eq_true rfl)) (SP_X6_put hM rr (hindQ_rr (s := S 1) (q := q) (k := k) (f := first) (l := last) hr (by omega)) (by simp [mset_q, mset_s, mcpy_q, mcpy_s, chg_q, chg_0, push_q, push_0]; exact h1) _ _ _ _ _ _) ?_
    refine xw_iret (pc := 50) .int dX6_add_50 rfl ?_ 
    refine ⟨?_, ?_⟩ <;> simp_all [opAdd, push, mset]
  · replace hb14 : ¬ ((hindQ (S 1) rr q k first last).1 ≤ 0) := mt (nI_leI (a := (hindQ (S 1) rr q k first last).1) (b := 0) (by omega) (by omega)).mpr hb14
    refine xw_aload_n (pc := 17) dX6_add_17 1 rfl ?_
    refine xw_iconst (v := nI 3) (pc := 18) dX6_add_18 rfl ?_
    refine xw_iload (pc := 19) dX6_add_19 0 rfl ?_
    refine xw_aload_n (pc := 21) dX6_add_21 1 rfl ?_
    refine xm_getI (pc := 22) hM fd_X6_115 dX6_add_22 ?_
    refine xw_callV (pc := 25) (xr_V (as := [_, _, _]) ok_X6_refuse rfl (by decide) q2433 q2435 qs58 (by rw [xtag_with, hM.1]; rfl) (by rw [xtag_with, hM.1]; rfl) dX6_add_25 rfl rfl (Nat.le_of_ble_eq_true rfl)) (SP_X6_refuse hM) ?_
    refine xw_iret (pc := 28) .int dX6_add_28 rfl ?_ 
    refine ⟨?_, ?_⟩ <;> simp_all [opAdd, push, mset]
