/-! JDK 12: String.indexOf -/
set_option maxRecDepth 100000
/-- the first place, from j on, of m, that holds c -/
def fIx (cs : Nat → Nat) (c : Nat) : Nat → Nat → Option Nat
  | 0, _ => none
  | m + 1, j => if cs j = c then some j else fIx cs c m (j + 1)
def ixV (o : Option Nat) : Int32 := match o with
  | none => -1
  | some j => nI j
theorem fIx_lt {cs : Nat → Nat} {c : Nat} : ∀ (m j x : Nat), fIx cs c m j = some x → j ≤ x ∧ x < j + m ∧ cs x = c := by
  intro m
  induction m with
  | zero => intro j x h; cases h
  | succ m ih =>
    intro j x h
    unfold fIx at h
    split at h
    · rename_i h1
      cases h
      exact ⟨Nat.le_refl _, by omega, h1⟩
    · have := ih (j + 1) x h
      exact ⟨by omega, by omega, this.2.2⟩
theorem fIx_big {cs : Nat → Nat} {c : Nat} (h : ∀ j, cs j < 256) (hc : 256 ≤ c) : ∀ (m j : Nat), fIx cs c m j = none := by
  intro m
  induction m with
  | zero => intro j; rfl
  | succ m ih =>
    intro j
    unfold fIx
    rw [if_neg (by have := h j; omega)]
    exact ih (j + 1)
theorem bt_inj {a b : Nat} (ha : a < 256) (hb : b < 256) : bt a = bt b ↔ a = b := by
  refine ⟨fun h => ?_, fun h => by rw [h]⟩
  have h1 := bt_and a
  rw [h, bt_and b, Nat.mod_eq_of_lt ha, Nat.mod_eq_of_lt hb] at h1
  exact ((nI_eq (a := b) (b := a) (by omega) (by omega)).mp h1).symm

theorem SP_J9_isLatin1 {d : Nat} {g : xG} {s sv k : Nat} {cs : Nat → Nat} (hT : xStr g s sv k cs) : XM M_J9_isLatin1 d [.ref s] g (xOne (some (.int (bI true))) g) := by
  have hT0 := hT
  obtain ⟨q1, q2, q3, q4, q5, q6⟩ := hT
  refine xm_of (by decide +kernel) (Nat.le_of_ble_eq_true rfl) ?_
  show XW _ _ 0 [(0, _)] [] _ _
  refine xw_gets (i := 7) (pc := 0) dJ9_isLatin1_0 rfl q339 ?_
  refine xw_if_eq (pc := 3) 17 dJ9_isLatin1_3 rfl (fun hb => absurd hb (by decide)) (fun _ => ?_)
  refine xw_aload_n (pc := 6) dJ9_isLatin1_6 0 rfl ?_
  refine xw_getNat (k := 0) (pc := 7) fd_J9_15 dJ9_isLatin1_7 (by first | assumption | (simp [-List.getD_eq_getElem?_getD, xE_setI, xsz_setI, xsl_setI, xtag_setI, xown_setI, xlen_setI, xE_setR, xsz_setR, xsl_setR, xtag_setR, xown_setR, xlen_setR, xE_setW, xsz_setW, xsl_setW, xtag_setW, xown_setW, xlen_setW, xi_setR, xi_setW, xr_setI, xr_setW, xww_setI, xww_setR, xi_setI, xr_setR, xww_setW, xE_new, xsz_new, xsl_new, q1, q2, q3, xsub]; done) | (simp [-List.getD_eq_getElem?_getD, xE_setI, xsz_setI, xsl_setI, xtag_setI, xown_setI, xlen_setI, xE_setR, xsz_setR, xsl_setR, xtag_setR, xown_setR, xlen_setR, xE_setW, xsz_setW, xsl_setW, xtag_setW, xown_setW, xlen_setW, xi_setR, xi_setW, xr_setI, xr_setW, xww_setI, xww_setR, xi_setI, xr_setR, xww_setW, xE_new, xsz_new, xsl_new, q1, q2, q3] <;> rfl)) (by simp [-List.getD_eq_getElem?_getD, xE_setI, xsz_setI, xsl_setI, xtag_setI, xown_setI, xlen_setI, xE_setR, xsz_setR, xsl_setR, xtag_setR, xown_setR, xlen_setR, xE_setW, xsz_setW, xsl_setW, xtag_setW, xown_setW, xlen_setW, xi_setR, xi_setW, xr_setI, xr_setW, xww_setI, xww_setR, xi_setI, xr_setR, xww_setW, xE_new, xsz_new, xsl_new, q1, q2, q3]) ?_
  refine xw_if_ne (pc := 10) 17 dJ9_isLatin1_10 rfl (fun hb => absurd hb (by decide)) (fun _ => ?_)
  refine xw_iconst (v := nI 1) (pc := 13) dJ9_isLatin1_13 rfl ?_
  refine xw_goto (pc := 14) 18 dJ9_isLatin1_14 rfl ?_
  refine xw_iret (pc := 18) .boolean dJ9_isLatin1_18 rfl ?_ 
  exact ⟨rfl, rfl⟩

theorem SP_J15_canEncode_2 {d : Nat} {g : xG} {c : Nat} (hc : c < 65536) : XM M_J15_canEncode_2 d [.int (nI c)] g (xOne (some (.int (bI (decide (c < 256))))) g) := by
  refine xm_of (by decide +kernel) (Nat.le_of_ble_eq_true rfl) ?_
  show XW _ _ 0 [(0, _)] [] _ _
  refine xw_iload_n (pc := 0) dJ15_canEncode_2_0 0 rfl ?_
  refine xw_if_lt (pc := 1) 15 dJ15_canEncode_2_1 rfl (fun hb1 => ?_) (fun hb1 => ?_)
  · exfalso
    replace hb1 : c < 0 := (nI_ltI (a := c) (b := 0) (by omega) (by omega)).mp hb1
    omega
  replace hb1 : ¬ (c < 0) := mt (nI_ltI (a := c) (b := 0) (by omega) (by omega)).mpr hb1
  refine xw_iload_n (pc := 4) dJ15_canEncode_2_4 0 rfl ?_
  refine xw_sipush (v := nI 255) (pc := 5) dJ15_canEncode_2_5 (by decide +kernel) ?_
  refine xw_icmp_gt (pc := 8) 15 dJ15_canEncode_2_8 rfl (fun hb8 => ?_) (fun hb8 => ?_)
  · replace hb8 : 255 < c := (nI_ltI (a := 255) (b := c) (by omega) (by omega)).mp hb8
    refine xw_iconst (v := nI 0) (pc := 15) dJ15_canEncode_2_15 rfl ?_
    refine xw_iret (pc := 16) .boolean dJ15_canEncode_2_16 rfl ?_ 
    first
    | exact ⟨by rw [decide_eq_true (show c < 256 by omega)]; rfl, rfl⟩
    | exact ⟨by rw [decide_eq_false (show ¬ c < 256 by omega)]; rfl, rfl⟩
  · replace hb8 : ¬ (255 < c) := mt (nI_ltI (a := 255) (b := c) (by omega) (by omega)).mpr hb8
    refine xw_iconst (v := nI 1) (pc := 11) dJ15_canEncode_2_11 rfl ?_
    refine xw_goto (pc := 12) 16 dJ15_canEncode_2_12 rfl ?_
    refine xw_iret (pc := 16) .boolean dJ15_canEncode_2_16 rfl ?_ 
    first
    | exact ⟨by rw [decide_eq_true (show c < 256 by omega)]; rfl, rfl⟩
    | exact ⟨by rw [decide_eq_false (show ¬ c < 256 by omega)]; rfl, rfl⟩

theorem lp_J15_indexOfChar {d : Nat} {g : xG} {sv k c : Nat} {cs : Nat → Nat} (q4 : xtag g sv = 103) (q5 : xlen g sv = k) (q6 : ∀ j, j < k → cs j < 256 ∧ xi g sv j = bt (cs j)) (hk : k < 1000) (hc : c < 256) : ∀ (m j : Nat), j + m = k → XW M_J15_indexOfChar d 7 [(5, .int (nI j)), (4, .int ((nI c).toInt8.toInt32)), (0, .ref sv), (1, .int (nI c)), (2, .int (nI 0)), (3, .int (nI k))] [] g (xOne (some (.int (ixV (fIx cs c m j)))) g) := by
  intro m
  induction m with
  | zero =>
    intro j hj
    refine xw_iload (pc := 7) dJ15_indexOfChar_7 0 rfl ?_
    refine xw_iload_n (pc := 9) dJ15_indexOfChar_9 5 rfl ?_
    refine xw_icmp_ge (pc := 10) 31 dJ15_indexOfChar_10 rfl (fun hb10 => ?_) (fun hb10 => ?_)
    rotate_left
    · exfalso
      replace hb10 : ¬ (k ≤ j) := mt (nI_leI (a := k) (b := j) (by omega) (by omega)).mpr hb10
      omega
    replace hb10 : k ≤ j := (nI_leI (a := k) (b := j) (by omega) (by omega)).mp hb10
    refine xw_iconst (v := -1) (pc := 31) dJ15_indexOfChar_31 (by decide +kernel) ?_
    refine xw_iret (pc := 32) .int dJ15_indexOfChar_32 rfl ?_ 
    exact ⟨rfl, rfl⟩
  | succ m ih =>
    intro j hj
    have hjk : j < k := by omega
    have h6 := q6 j hjk
    unfold fIx
    by_cases h : cs j = c
    · rw [if_pos h]
      refine xw_iload (pc := 7) dJ15_indexOfChar_7 0 rfl ?_
      refine xw_iload_n (pc := 9) dJ15_indexOfChar_9 5 rfl ?_
      refine xw_icmp_ge (pc := 10) 31 dJ15_indexOfChar_10 rfl (fun hb10 => ?_) (fun hb10 => ?_)
      · exfalso
        replace hb10 : k ≤ j := (nI_leI (a := k) (b := j) (by omega) (by omega)).mp hb10
        omega
      replace hb10 : ¬ (k ≤ j) := mt (nI_leI (a := k) (b := j) (by omega) (by omega)).mpr hb10
      refine xw_aload_n (pc := 13) dJ15_indexOfChar_13 2 rfl ?_
      refine xw_iload (pc := 14) dJ15_indexOfChar_14 0 rfl ?_
      refine xw_bald (k := j) (pc := 16) dJ15_indexOfChar_16 (by simp [-List.getD_eq_getElem?_getD, xE_setI, xsz_setI, xsl_setI, xtag_setI, xown_setI, xlen_setI, xE_setR, xsz_setR, xsl_setR, xtag_setR, xown_setR, xlen_setR, xE_setW, xsz_setW, xsl_setW, xtag_setW, xown_setW, xlen_setW, xi_setR, xi_setW, xr_setI, xr_setW, xww_setI, xww_setR, xi_setI, xr_setR, xww_setW, xE_new, xsz_new, xsl_new, q4]) rfl (by rw [q5]; exact hjk) ?_
      rw [h6.2]
      refine xw_iload (pc := 17) dJ15_indexOfChar_17 1 rfl ?_
      refine xw_icmp_ne (pc := 19) 25 dJ15_indexOfChar_19 rfl (fun hb19 => ?_) (fun hb19 => ?_)
      · exfalso
        exact hb19 (by rw [h]; rfl)
      refine xw_iload (pc := 22) dJ15_indexOfChar_22 0 rfl ?_
      refine xw_iret (pc := 24) .int dJ15_indexOfChar_24 rfl ?_ 
      exact ⟨rfl, rfl⟩
    · rw [if_neg h]
      refine xw_iload (pc := 7) dJ15_indexOfChar_7 0 rfl ?_
      refine xw_iload_n (pc := 9) dJ15_indexOfChar_9 5 rfl ?_
      refine xw_icmp_ge (pc := 10) 31 dJ15_indexOfChar_10 rfl (fun hb10 => ?_) (fun hb10 => ?_)
      · exfalso
        replace hb10 : k ≤ j := (nI_leI (a := k) (b := j) (by omega) (by omega)).mp hb10
        omega
      replace hb10 : ¬ (k ≤ j) := mt (nI_leI (a := k) (b := j) (by omega) (by omega)).mpr hb10
      refine xw_aload_n (pc := 13) dJ15_indexOfChar_13 2 rfl ?_
      refine xw_iload (pc := 14) dJ15_indexOfChar_14 0 rfl ?_
      refine xw_bald (k := j) (pc := 16) dJ15_indexOfChar_16 (by simp [-List.getD_eq_getElem?_getD, xE_setI, xsz_setI, xsl_setI, xtag_setI, xown_setI, xlen_setI, xE_setR, xsz_setR, xsl_setR, xtag_setR, xown_setR, xlen_setR, xE_setW, xsz_setW, xsl_setW, xtag_setW, xown_setW, xlen_setW, xi_setR, xi_setW, xr_setI, xr_setW, xww_setI, xww_setR, xi_setI, xr_setR, xww_setW, xE_new, xsz_new, xsl_new, q4]) rfl (by rw [q5]; exact hjk) ?_
      rw [h6.2]
      refine xw_iload (pc := 17) dJ15_indexOfChar_17 1 rfl ?_
      refine xw_icmp_ne (pc := 19) 25 dJ15_indexOfChar_19 rfl (fun hb19 => ?_) (fun hb19 => ?_)
      rotate_left
      · exfalso
        exact h ((bt_inj h6.1 hc).mp hb19)
      refine xw_iinc (v := nI (j + 1)) (l' := [(5, _), (4, _), (0, _), (1, _), (2, _), (3, _)]) (pc := 25) dJ15_indexOfChar_25 0 rfl (nI_add _ 1) (by decide) rfl ?_
      refine xw_goto (pc := 28) 7 dJ15_indexOfChar_28 rfl ?_
      exact ih (j + 1) (by omega)
theorem SP_J15_indexOfChar {d : Nat} {g : xG} {sv k c : Nat} {cs : Nat → Nat} (q4 : xtag g sv = 103) (q5 : xlen g sv = k) (q6 : ∀ j, j < k → cs j < 256 ∧ xi g sv j = bt (cs j)) (hk : k < 1000) (hc : c < 256) : XM M_J15_indexOfChar d [.ref sv, .int (nI c), .int (nI 0), .int (nI k)] g (xOne (some (.int (ixV (fIx cs c k 0)))) g) := by
  refine xm_of (by decide +kernel) (Nat.le_of_ble_eq_true rfl) ?_
  show XW _ _ 0 [(0, _), (1, _), (2, _), (3, _)] [] _ _
  refine xw_iload_n (pc := 0) dJ15_indexOfChar_0 1 rfl ?_
  refine xw_i2b (pc := 1) dJ15_indexOfChar_1 ?_
  refine xw_istore (l' := [(4, _), (0, _), (1, _), (2, _), (3, _)]) (pc := 2) dJ15_indexOfChar_2 (by decide) rfl ?_
  refine xw_iload_n (pc := 4) dJ15_indexOfChar_4 3 rfl ?_
  refine xw_istore (l' := [(5, _), (4, _), (0, _), (1, _), (2, _), (3, _)]) (pc := 5) dJ15_indexOfChar_5 (by decide) rfl ?_
  exact lp_J15_indexOfChar q4 q5 q6 hk hc k 0 (by omega)

theorem SP_J15_indexOfS {d : Nat} {g : xG} {sv k c : Nat} {cs : Nat → Nat} (q4 : xtag g sv = 103) (q5 : xlen g sv = k) (q6 : ∀ j, j < k → cs j < 256 ∧ xi g sv j = bt (cs j)) (hk : k < 1000) (hk0 : 0 < k) (hc : c < 256) : XM M_J15_indexOf (d + 1) [.ref sv, .int (nI c), .int (nI 0), .int (nI k)] g (xOne (some (.int (ixV (fIx cs c k 0)))) g) := by
  have dT : decide (c < 256) = true := decide_eq_true hc
  have e0 : max 0 0 = 0 := rfl
  have e1 : min k k = k := Nat.min_self k
  refine xm_of (by decide +kernel) (Nat.le_of_ble_eq_true rfl) ?_
  show XW _ _ 0 [(0, _), (1, _), (2, _), (3, _)] [] _ _
  refine xw_iload_n (pc := 0) dJ15_indexOf_0 1 rfl ?_
  refine xw_callV (pc := 1) (xr_S (as := [_]) ok_J15_canEncode_2 rfl (by decide) q2034 q2035 dJ15_indexOf_1 rfl rfl (Nat.le_of_ble_eq_true rfl)) ((show XM M_J15_canEncode_2 d [.int (nI c)] g (xOne (some (.int (bI true))) g) from (dT) ▸ SP_J15_canEncode_2 (by omega))) ?_
  refine xw_if_ne (pc := 4) 9 dJ15_indexOf_4 rfl (fun _ => ?_) (fun hb => absurd hb (by decide))
  refine xw_iload_n (pc := 9) dJ15_indexOf_9 2 rfl ?_
  refine xw_iconst (v := nI 0) (pc := 10) dJ15_indexOf_10 rfl ?_
  refine xn_mmax (pc := 11) dJ15_indexOf_11 q2037 q106 (Nat.le_of_ble_eq_true rfl) (by omega) (by omega) ?_
  rw [show nI (max 0 0) = nI 0 from rfl]
  refine xw_istore_n (l' := [(2, _), (0, _), (1, _), (3, _)]) (pc := 14) dJ15_indexOf_14 rfl (by decide) rfl ?_
  refine xw_iload_n (pc := 15) dJ15_indexOf_15 3 rfl ?_
  refine xw_aload_n (pc := 16) dJ15_indexOf_16 1 rfl ?_
  skip
  refine xw_alen (q := 2) (pc := 17) dJ15_indexOf_17 (by simp [-List.getD_eq_getElem?_getD, xE_setI, xsz_setI, xsl_setI, xtag_setI, xown_setI, xlen_setI, xE_setR, xsz_setR, xsl_setR, xtag_setR, xown_setR, xlen_setR, xE_setW, xsz_setW, xsl_setW, xtag_setW, xown_setW, xlen_setW, xi_setR, xi_setW, xr_setI, xr_setW, xww_setI, xww_setR, xi_setI, xr_setR, xww_setW, xE_new, xsz_new, xsl_new, q4, q5]) (by first | decide | omega) ?_
  rw [show xlen _ sv = k from by simp [-List.getD_eq_getElem?_getD, xE_setI, xsz_setI, xsl_setI, xtag_setI, xown_setI, xlen_setI, xE_setR, xsz_setR, xsl_setR, xtag_setR, xown_setR, xlen_setR, xE_setW, xsz_setW, xsl_setW, xtag_setW, xown_setW, xlen_setW, xi_setR, xi_setW, xr_setI, xr_setW, xww_setI, xww_setR, xi_setI, xr_setR, xww_setW, xE_new, xsz_new, xsl_new, q4, q5]]
  refine xn_mmin (pc := 18) dJ15_indexOf_18 q2038 q106 (Nat.le_of_ble_eq_true rfl) (by omega) (by omega) ?_
  rw [show min k k = k from Nat.min_self k]
  refine xw_istore_n (l' := [(3, _), (2, _), (0, _), (1, _)]) (pc := 21) dJ15_indexOf_21 rfl (by decide) rfl ?_
  refine xw_iload_n (pc := 22) dJ15_indexOf_22 1 rfl ?_
  refine xw_iload_n (pc := 23) dJ15_indexOf_23 0 rfl ?_
  refine xw_icmp_lt (pc := 24) 29 dJ15_indexOf_24 rfl (fun hb24 => ?_) (fun hb24 => ?_)
  rotate_left
  · exfalso
    replace hb24 : ¬ (0 < k) := mt (nI_ltI (a := 0) (b := k) (by omega) (by omega)).mpr hb24
    omega
  replace hb24 : 0 < k := (nI_ltI (a := 0) (b := k) (by omega) (by omega)).mp hb24
  refine xw_aload_n (pc := 29) dJ15_indexOf_29 2 rfl ?_
  refine xw_iload_n (pc := 30) dJ15_indexOf_30 3 rfl ?_
  refine xw_iload_n (pc := 31) dJ15_indexOf_31 1 rfl ?_
  refine xw_iload_n (pc := 32) dJ15_indexOf_32 0 rfl ?_
  refine xw_callV (pc := 33) (xr_S (as := [_, _, _, _]) ok_J15_indexOfChar rfl (by decide) q2039 q2040 dJ15_indexOf_33 rfl rfl (Nat.le_of_ble_eq_true rfl)) (SP_J15_indexOfChar q4 q5 q6 hk hc) ?_
  refine xw_iret (pc := 36) .int dJ15_indexOf_36 rfl ?_ 
  exact ⟨rfl, rfl⟩

theorem SP_J15_indexOfB {d : Nat} {g : xG} {sv k c : Nat} (hc : c < 65536) (hc2 : ¬ c < 256) : XM M_J15_indexOf (d + 1) [.ref sv, .int (nI c), .int (nI 0), .int (nI k)] g (xOne (some (.int (-1))) g) := by
  have dF : decide (c < 256) = false := decide_eq_false hc2
  refine xm_of (by decide +kernel) (Nat.le_of_ble_eq_true rfl) ?_
  show XW _ _ 0 [(0, _), (1, _), (2, _), (3, _)] [] _ _
  refine xw_iload_n (pc := 0) dJ15_indexOf_0 1 rfl ?_
  refine xw_callV (pc := 1) (xr_S (as := [_]) ok_J15_canEncode_2 rfl (by decide) q2034 q2035 dJ15_indexOf_1 rfl rfl (Nat.le_of_ble_eq_true rfl)) ((show XM M_J15_canEncode_2 d [.int (nI c)] g (xOne (some (.int (bI false))) g) from (dF) ▸ SP_J15_canEncode_2 hc)) ?_
  refine xw_if_ne (pc := 4) 9 dJ15_indexOf_4 rfl (fun hb => absurd hb (by decide)) (fun _ => ?_)
  refine xw_iconst (v := -1) (pc := 7) dJ15_indexOf_7 (by decide +kernel) ?_
  refine xw_iret (pc := 8) .int dJ15_indexOf_8 rfl ?_ 
  exact ⟨rfl, rfl⟩

theorem SP_J15_indexOf {d : Nat} {g : xG} {sv k c : Nat} {cs : Nat → Nat} (q4 : xtag g sv = 103) (q5 : xlen g sv = k) (q6 : ∀ j, j < k → cs j < 256 ∧ xi g sv j = bt (cs j)) (hk : k < 1000) (hk0 : 0 < k) (hcs : ∀ j, cs j < 256) (hc : c < 65536) : XM M_J15_indexOf (d + 1) [.ref sv, .int (nI c), .int (nI 0), .int (nI k)] g (xOne (some (.int (ixV (fIx cs c k 0)))) g) := by
  by_cases h : c < 256
  · exact SP_J15_indexOfS q4 q5 q6 hk hk0 h
  · rw [fIx_big hcs (by omega)]
    exact SP_J15_indexOfB hc h
theorem SP_J9_indexOf_2 {d : Nat} {g : xG} {c : Nat} {s sv k : Nat} {cs : Nat → Nat} (hT : xStr g s sv k cs) (hk : k < 1000) (hk0 : 0 < k) (hcs : ∀ j, cs j < 256) (hc : c < 65536) : XM M_J9_indexOf_2 (d + 2) [.ref s, .int (nI c), .int (nI 0)] g (xOne (some (.int (ixV (fIx cs c k 0)))) g) := by
  have hT0 := hT
  obtain ⟨q1, q2, q3, q4, q5, q6⟩ := hT
  refine xm_of (by decide +kernel) (Nat.le_of_ble_eq_true rfl) ?_
  show XW _ _ 0 [(0, _), (1, _), (2, _)] [] _ _
  refine xw_aload_n (pc := 0) dJ9_indexOf_2_0 0 rfl ?_
  refine xw_callV (pc := 1) (xr_V (as := []) ok_J9_isLatin1 rfl (by decide) q1933 q1934 q1935 (by rw [q1]; rfl) (by rw [q1]; rfl) dJ9_indexOf_2_1 rfl rfl (Nat.le_of_ble_eq_true rfl)) (SP_J9_isLatin1 hT0) ?_
  refine xw_if_eq (pc := 4) 23 dJ9_indexOf_2_4 rfl (fun hb => absurd hb (by decide)) (fun _ => ?_)
  refine xw_aload_n (pc := 7) dJ9_indexOf_2_7 0 rfl ?_
  refine xw_getS (b := sv) (pc := 8) fd_J9_9 dJ9_indexOf_2_8 (by first | assumption | (simp [-List.getD_eq_getElem?_getD, xE_setI, xsz_setI, xsl_setI, xtag_setI, xown_setI, xlen_setI, xE_setR, xsz_setR, xsl_setR, xtag_setR, xown_setR, xlen_setR, xE_setW, xsz_setW, xsl_setW, xtag_setW, xown_setW, xlen_setW, xi_setR, xi_setW, xr_setI, xr_setW, xww_setI, xww_setR, xi_setI, xr_setR, xww_setW, xE_new, xsz_new, xsl_new, q1, q2, q3, xsub]; done) | (simp [-List.getD_eq_getElem?_getD, xE_setI, xsz_setI, xsl_setI, xtag_setI, xown_setI, xlen_setI, xE_setR, xsz_setR, xsl_setR, xtag_setR, xown_setR, xlen_setR, xE_setW, xsz_setW, xsl_setW, xtag_setW, xown_setW, xlen_setW, xi_setR, xi_setW, xr_setI, xr_setW, xww_setI, xww_setR, xi_setI, xr_setR, xww_setW, xE_new, xsz_new, xsl_new, q1, q2, q3] <;> rfl)) (by simp [-List.getD_eq_getElem?_getD, xE_setI, xsz_setI, xsl_setI, xtag_setI, xown_setI, xlen_setI, xE_setR, xsz_setR, xsl_setR, xtag_setR, xown_setR, xlen_setR, xE_setW, xsz_setW, xsl_setW, xtag_setW, xown_setW, xlen_setW, xi_setR, xi_setW, xr_setI, xr_setW, xww_setI, xww_setR, xi_setI, xr_setR, xww_setW, xE_new, xsz_new, xsl_new, q1, q2, q3]) ?_
  refine xw_iload_n (pc := 11) dJ9_indexOf_2_11 1 rfl ?_
  refine xw_iload_n (pc := 12) dJ9_indexOf_2_12 2 rfl ?_
  refine xw_aload_n (pc := 13) dJ9_indexOf_2_13 0 rfl ?_
  refine xw_callV (pc := 14) (xr_V (as := []) ok_J9_length rfl (by decide) q2030 q332 q333 (by rw [q1]; rfl) (by rw [q1]; rfl) dJ9_indexOf_2_14 rfl rfl (Nat.le_of_ble_eq_true rfl)) (SP_J9_length hT0 (by omega)) ?_
  refine xw_callV (pc := 17) (xr_S (as := [_, _, _, _]) ok_J15_indexOf rfl (by decide) q2031 q2032 dJ9_indexOf_2_17 rfl rfl (Nat.le_of_ble_eq_true rfl)) (SP_J15_indexOf q4 q5 q6 hk hk0 hcs hc) ?_
  refine xw_goto (pc := 20) 36 dJ9_indexOf_2_20 rfl ?_
  refine xw_iret (pc := 36) .int dJ9_indexOf_2_36 rfl ?_ 
  exact ⟨rfl, rfl⟩

theorem SP_J9_indexOf {d : Nat} {g : xG} {c : Nat} {s sv k : Nat} {cs : Nat → Nat} (hT : xStr g s sv k cs) (hk : k < 1000) (hk0 : 0 < k) (hcs : ∀ j, cs j < 256) (hc : c < 65536) : XM M_J9_indexOf (d + 3) [.ref s, .int (nI c)] g (xOne (some (.int (ixV (fIx cs c k 0)))) g) := by
  have hT0 := hT
  obtain ⟨q1, q2, q3, q4, q5, q6⟩ := hT
  refine xm_of (by decide +kernel) (Nat.le_of_ble_eq_true rfl) ?_
  show XW _ _ 0 [(0, _), (1, _)] [] _ _
  refine xw_aload_n (pc := 0) dJ9_indexOf_0 0 rfl ?_
  refine xw_iload_n (pc := 1) dJ9_indexOf_1 1 rfl ?_
  refine xw_iconst (v := nI 0) (pc := 2) dJ9_indexOf_2 rfl ?_
  refine xw_callV (pc := 3) (xr_V (as := [_, _]) ok_J9_indexOf_2 rfl (by decide) q2026 q2027 q2028 (by rw [q1]; rfl) (by rw [q1]; rfl) dJ9_indexOf_3 rfl rfl (Nat.le_of_ble_eq_true rfl)) (SP_J9_indexOf_2 hT0 hk hk0 hcs hc) ?_
  refine xw_iret (pc := 6) .int dJ9_indexOf_6 rfl ?_ 
  exact ⟨rfl, rfl⟩

