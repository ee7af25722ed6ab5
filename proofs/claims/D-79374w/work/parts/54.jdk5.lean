/-! JDK 5: ArrayDeque -/
set_option maxRecDepth 100000
/-- a deque of the objects ls, from the place h of its ring on -/
def xAD (g : xG) (o a arr h : Nat) (ls : List Nat) : Prop := xtag g a = 21 ∧ xown g a = o ∧ xr g a 0 = some arr ∧ xi g a 1 = nI h ∧ xi g a 2 = nI ((h + ls.length) % 17) ∧ xtag g arr = 108 ∧ xown g arr = o ∧ xlen g arr = 17 ∧ h < 17 ∧ ls.length < 17 ∧ ∀ i, i < ls.length → xr g arr ((h + i) % 17) = some (ls.getD i 0)
theorem xAD.fr {O : Nat → Prop} {n : Nat} {g g' : xG} {o a arr h : Nat} {ls : List Nat} (q : xAD g o a arr h ls) (F : xFr O n g g') (hO : ¬ O o) : xAD g' o a arr h ls := by
  obtain ⟨t1, t2, t3, t4, t5, t6, t7, t8, t9, t10, t11⟩ := q
  have ha : a < xsz g := xlt (by rw [t1]; decide)
  have hr : arr < xsz g := xlt (by rw [t6]; decide)
  have h1 : ¬ O (xown g a) := by rw [t2]; exact hO
  have h2 : ¬ O (xown g arr) := by rw [t7]; exact hO
  exact ⟨(F.tag ha).trans t1, (F.own ha).trans t2, (F.r' ha h1).trans t3, (F.i' ha h1).trans t4, (F.i' ha h1).trans t5, (F.tag hr).trans t6, (F.own hr).trans t7, (F.len hr).trans t8, t9, t10, fun i hi => by rw [F.r' hr h2]; exact t11 i hi⟩
theorem SP_J18_incA {d : Nat} {g : xG} {k : Nat} (h : k + 1 < 17) : XM M_J18_inc d [.int (nI k), .int (nI 17)] g (xOne (some (.int (nI (k + 1)))) g) := by
  refine xm_of (by decide +kernel) (Nat.le_of_ble_eq_true rfl) ?_
  show XW _ _ 0 [(0, _), (1, _)] [] _ _
  refine xw_iinc (v := nI (k + 1)) (l' := [(0, _), (1, _)]) (pc := 0) dJ18_inc_0 0 rfl (nI_add _ 1) (by decide) rfl ?_
  refine xw_iload_n (pc := 3) dJ18_inc_3 0 rfl ?_
  refine xw_iload_n (pc := 4) dJ18_inc_4 1 rfl ?_
  refine xw_icmp_lt (pc := 5) 10 dJ18_inc_5 rfl (fun hb5 => ?_) (fun hb5 => ?_)
  rotate_left
  · exfalso
    replace hb5 : ¬ (k + 1 < 17) := mt (nI_ltI (a := k + 1) (b := 17) (by omega) (by omega)).mpr hb5
    omega
  replace hb5 : k + 1 < 17 := (nI_ltI (a := k + 1) (b := 17) (by omega) (by omega)).mp hb5
  refine xw_iload_n (pc := 10) dJ18_inc_10 0 rfl ?_
  refine xw_iret (pc := 11) .int dJ18_inc_11 rfl ?_ 
  exact ⟨rfl, rfl⟩

theorem SP_J18_incB {d : Nat} {g : xG} {k : Nat} (h : k + 1 = 17) : XM M_J18_inc d [.int (nI k), .int (nI 17)] g (xOne (some (.int (nI 0))) g) := by
  refine xm_of (by decide +kernel) (Nat.le_of_ble_eq_true rfl) ?_
  show XW _ _ 0 [(0, _), (1, _)] [] _ _
  refine xw_iinc (v := nI (k + 1)) (l' := [(0, _), (1, _)]) (pc := 0) dJ18_inc_0 0 rfl (nI_add _ 1) (by decide) rfl ?_
  refine xw_iload_n (pc := 3) dJ18_inc_3 0 rfl ?_
  refine xw_iload_n (pc := 4) dJ18_inc_4 1 rfl ?_
  refine xw_icmp_lt (pc := 5) 10 dJ18_inc_5 rfl (fun hb5 => ?_) (fun hb5 => ?_)
  · exfalso
    replace hb5 : k + 1 < 17 := (nI_ltI (a := k + 1) (b := 17) (by omega) (by omega)).mp hb5
    omega
  replace hb5 : ¬ (k + 1 < 17) := mt (nI_ltI (a := k + 1) (b := 17) (by omega) (by omega)).mpr hb5
  refine xw_iconst (v := nI 0) (pc := 8) dJ18_inc_8 rfl ?_
  refine xw_istore_n (l' := [(0, _), (1, _)]) (pc := 9) dJ18_inc_9 rfl (by decide) rfl ?_
  refine xw_iload_n (pc := 10) dJ18_inc_10 0 rfl ?_
  refine xw_iret (pc := 11) .int dJ18_inc_11 rfl ?_ 
  exact ⟨rfl, rfl⟩

theorem SP_J18_inc {d : Nat} {g : xG} {k : Nat} (h : k < 17) : XM M_J18_inc d [.int (nI k), .int (nI 17)] g (xOne (some (.int (nI ((k + 1) % 17)))) g) := by
  by_cases e : k + 1 < 17
  · rw [Nat.mod_eq_of_lt e]
    exact SP_J18_incA e
  · rw [show (k + 1) % 17 = 0 from by omega]
    exact SP_J18_incB (by omega)
theorem SP_J18_decA {d : Nat} {g : xG} {k : Nat} (h : k < 17) (h0 : 0 < k) : XM M_J18_dec d [.int (nI k), .int (nI 17)] g (xOne (some (.int (nI (k - 1)))) g) := by
  refine xm_of (by decide +kernel) (Nat.le_of_ble_eq_true rfl) ?_
  show XW _ _ 0 [(0, _), (1, _)] [] _ _
  refine xw_iinc (v := nI (k - 1)) (l' := [(0, _), (1, _)]) (pc := 0) dJ18_dec_0 0 rfl (by exact nI_dec1 (by omega)) (by decide) rfl ?_
  refine xw_iload_n (pc := 3) dJ18_dec_3 0 rfl ?_
  refine xw_if_ge (pc := 4) 11 dJ18_dec_4 rfl (fun hb4 => ?_) (fun hb4 => ?_)
  rotate_left
  · exfalso
    replace hb4 : ¬ (0 ≤ k - 1) := mt (nI_leI (a := 0) (b := k - 1) (by omega) (by omega)).mpr hb4
    omega
  replace hb4 : 0 ≤ k - 1 := (nI_leI (a := 0) (b := k - 1) (by omega) (by omega)).mp hb4
  refine xw_iload_n (pc := 11) dJ18_dec_11 0 rfl ?_
  refine xw_iret (pc := 12) .int dJ18_dec_12 rfl ?_ 
  exact ⟨rfl, rfl⟩

theorem SP_J18_decB {d : Nat} {g : xG} : XM M_J18_dec d [.int (nI 0), .int (nI 17)] g (xOne (some (.int (nI 16))) g) := by
  refine xm_of (by decide +kernel) (Nat.le_of_ble_eq_true rfl) ?_
  show XW _ _ 0 [(0, _), (1, _)] [] _ _
  refine xw_iinc (l' := [(0, _), (1, _)]) (pc := 0) dJ18_dec_0 0 rfl rfl (by decide) rfl ?_
  refine xw_iload_n (pc := 3) dJ18_dec_3 0 rfl ?_
  refine xw_if_ge (pc := 4) 11 dJ18_dec_4 rfl (fun hb4 => ?_) (fun hb4 => ?_)
  · exfalso
    exact absurd hb4 (by decide)
  refine xw_iload_n (pc := 7) dJ18_dec_7 1 rfl ?_
  refine xw_iconst (v := nI 1) (pc := 8) dJ18_dec_8 rfl ?_
  refine xn_isub (pc := 9) dJ18_dec_9 (by omega) ?_
  refine xw_istore_n (l' := [(0, _), (1, _)]) (pc := 10) dJ18_dec_10 rfl (by decide) rfl ?_
  refine xw_iload_n (pc := 11) dJ18_dec_11 0 rfl ?_
  refine xw_iret (pc := 12) .int dJ18_dec_12 rfl ?_ 
  exact ⟨rfl, rfl⟩

theorem SP_J18_dec {d : Nat} {g : xG} {k : Nat} (h : k < 17) : XM M_J18_dec d [.int (nI k), .int (nI 17)] g (xOne (some (.int (nI ((k + 16) % 17)))) g) := by
  by_cases e : 0 < k
  · rw [show (k + 16) % 17 = k - 1 from by omega]
    exact SP_J18_decA h e
  · have e0 : k = 0 := by omega
    subst e0
    exact SP_J18_decB
theorem x17 : ∀ (i j : Fin 17), i < j → ¬ (0 ≤ nI i.val - nI j.val) := by decide
theorem x17b : ∀ (i j : Fin 17), i < j → nI i.val - nI j.val + nI 17 = nI (i.val + 17 - j.val) := by decide
theorem SP_J18_subA {d : Nat} {g : xG} {k j : Nat} (h : j ≤ k) (hk : k < 17) : XM M_J18_sub d [.int (nI k), .int (nI j), .int (nI 17)] g (xOne (some (.int (nI (k - j)))) g) := by
  refine xm_of (by decide +kernel) (Nat.le_of_ble_eq_true rfl) ?_
  show XW _ _ 0 [(0, _), (1, _), (2, _)] [] _ _
  refine xw_iload_n (pc := 0) dJ18_sub_0 0 rfl ?_
  refine xw_iload_n (pc := 1) dJ18_sub_1 1 rfl ?_
  refine xn_isub (pc := 2) dJ18_sub_2 (by omega) ?_
  refine xw_dup (pc := 3) dJ18_sub_3 rfl ?_
  refine xw_istore_n (l' := [(0, _), (1, _), (2, _)]) (pc := 4) dJ18_sub_4 rfl (by decide) rfl ?_
  refine xw_if_ge (pc := 5) 12 dJ18_sub_5 rfl (fun hb5 => ?_) (fun hb5 => ?_)
  rotate_left
  · exfalso
    replace hb5 : ¬ (0 ≤ (k - j)) := mt (nI_leI (a := 0) (b := (k - j)) (by omega) (by omega)).mpr hb5
    omega
  replace hb5 : 0 ≤ (k - j) := (nI_leI (a := 0) (b := (k - j)) (by omega) (by omega)).mp hb5
  refine xw_iload_n (pc := 12) dJ18_sub_12 0 rfl ?_
  refine xw_iret (pc := 13) .int dJ18_sub_13 rfl ?_ 
  exact ⟨rfl, rfl⟩

theorem SP_J18_subB {d : Nat} {g : xG} {k j : Nat} (h : k < j) (hj : j < 17) : XM M_J18_sub d [.int (nI k), .int (nI j), .int (nI 17)] g (xOne (some (.int (nI (k + 17 - j)))) g) := by
  refine xm_of (by decide +kernel) (Nat.le_of_ble_eq_true rfl) ?_
  show XW _ _ 0 [(0, _), (1, _), (2, _)] [] _ _
  refine xw_iload_n (pc := 0) dJ18_sub_0 0 rfl ?_
  refine xw_iload_n (pc := 1) dJ18_sub_1 1 rfl ?_
  refine xw_isub (pc := 2) dJ18_sub_2 ?_
  refine xw_dup (pc := 3) dJ18_sub_3 rfl ?_
  refine xw_istore_n (l' := [(0, _), (1, _), (2, _)]) (pc := 4) dJ18_sub_4 rfl (by decide) rfl ?_
  refine xw_if_ge (pc := 5) 12 dJ18_sub_5 rfl (fun hb5 => ?_) (fun hb5 => ?_)
  · exfalso
    exact x17 ⟨k, by omega⟩ ⟨j, hj⟩ h hb5
  refine xw_iload_n (pc := 8) dJ18_sub_8 0 rfl ?_
  refine xw_iload_n (pc := 9) dJ18_sub_9 2 rfl ?_
  refine xw_iadd (pc := 10) dJ18_sub_10 ?_
  refine xw_istore_n (l' := [(0, _), (1, _), (2, _)]) (pc := 11) dJ18_sub_11 rfl (by decide) rfl ?_
  refine xw_iload_n (pc := 12) dJ18_sub_12 0 rfl ?_
  refine xw_iret (pc := 13) .int dJ18_sub_13 rfl ?_ 
  exact ⟨by rw [← x17b ⟨k, by omega⟩ ⟨j, hj⟩ h], rfl⟩

theorem SP_J18_sub {d : Nat} {g : xG} {k j : Nat} (hk : k < 17) (hj : j < 17) : XM M_J18_sub d [.int (nI k), .int (nI j), .int (nI 17)] g (xOne (some (.int (nI ((k + 17 - j) % 17)))) g) := by
  by_cases e : j ≤ k
  · rw [show (k + 17 - j) % 17 = k - j from by omega]
    exact SP_J18_subA e hk
  · rw [show (k + 17 - j) % 17 = k + 17 - j from by omega]
    exact SP_J18_subB (by omega) hj
theorem SP_J18_size {d : Nat} {g : xG} {o a arr h : Nat} {ls : List Nat} (hD : xAD g o a arr h ls) : XM M_J18_size (d + 1) [.ref a] g (xOne (some (.int (nI ls.length))) g) := by
  have hD0 := hD
  obtain ⟨t1, t2, t3, t4, t5, t6, t7, t8, t9, t10, t11⟩ := hD
  refine xm_of (by decide +kernel) (Nat.le_of_ble_eq_true rfl) ?_
  show XW _ _ 0 [(0, _)] [] _ _
  refine xw_aload_n (pc := 0) dJ18_size_0 0 rfl ?_
  refine xw_getNat (k := ((h + ls.length) % 17)) (pc := 1) fd_J18_20 dJ18_size_1 (by first | assumption | (simp [xE_setI, xsz_setI, xsl_setI, xtag_setI, xown_setI, xlen_setI, xE_setR, xsz_setR, xsl_setR, xtag_setR, xown_setR, xlen_setR, xE_setW, xsz_setW, xsl_setW, xtag_setW, xown_setW, xlen_setW, xi_setR, xi_setW, xr_setI, xr_setW, xww_setI, xww_setR, xi_setI, xr_setR, xww_setW, xE_new, xsz_new, xsl_new, t1, t3, t4, t5, t6, t8, xsub]; done) | (simp [xE_setI, xsz_setI, xsl_setI, xtag_setI, xown_setI, xlen_setI, xE_setR, xsz_setR, xsl_setR, xtag_setR, xown_setR, xlen_setR, xE_setW, xsz_setW, xsl_setW, xtag_setW, xown_setW, xlen_setW, xi_setR, xi_setW, xr_setI, xr_setW, xww_setI, xww_setR, xi_setI, xr_setR, xww_setW, xE_new, xsz_new, xsl_new, t1, t3, t4, t5, t6, t8] <;> rfl)) (by simp [xE_setI, xsz_setI, xsl_setI, xtag_setI, xown_setI, xlen_setI, xE_setR, xsz_setR, xsl_setR, xtag_setR, xown_setR, xlen_setR, xE_setW, xsz_setW, xsl_setW, xtag_setW, xown_setW, xlen_setW, xi_setR, xi_setW, xr_setI, xr_setW, xww_setI, xww_setR, xi_setI, xr_setR, xww_setW, xE_new, xsz_new, xsl_new, t1, t3, t4, t5, t6, t8]) ?_
  refine xw_aload_n (pc := 4) dJ18_size_4 0 rfl ?_
  refine xw_getNat (k := h) (pc := 5) fd_J18_24 dJ18_size_5 (by first | assumption | (simp [xE_setI, xsz_setI, xsl_setI, xtag_setI, xown_setI, xlen_setI, xE_setR, xsz_setR, xsl_setR, xtag_setR, xown_setR, xlen_setR, xE_setW, xsz_setW, xsl_setW, xtag_setW, xown_setW, xlen_setW, xi_setR, xi_setW, xr_setI, xr_setW, xww_setI, xww_setR, xi_setI, xr_setR, xww_setW, xE_new, xsz_new, xsl_new, t1, t3, t4, t5, t6, t8, xsub]; done) | (simp [xE_setI, xsz_setI, xsl_setI, xtag_setI, xown_setI, xlen_setI, xE_setR, xsz_setR, xsl_setR, xtag_setR, xown_setR, xlen_setR, xE_setW, xsz_setW, xsl_setW, xtag_setW, xown_setW, xlen_setW, xi_setR, xi_setW, xr_setI, xr_setW, xww_setI, xww_setR, xi_setI, xr_setR, xww_setW, xE_new, xsz_new, xsl_new, t1, t3, t4, t5, t6, t8] <;> rfl)) (by simp [xE_setI, xsz_setI, xsl_setI, xtag_setI, xown_setI, xlen_setI, xE_setR, xsz_setR, xsl_setR, xtag_setR, xown_setR, xlen_setR, xE_setW, xsz_setW, xsl_setW, xtag_setW, xown_setW, xlen_setW, xi_setR, xi_setW, xr_setI, xr_setW, xww_setI, xww_setR, xi_setI, xr_setR, xww_setW, xE_new, xsz_new, xsl_new, t1, t3, t4, t5, t6, t8]) ?_
  refine xw_aload_n (pc := 8) dJ18_size_8 0 rfl ?_
  refine xw_getS (b := arr) (pc := 9) fd_J18_3 dJ18_size_9 (by first | assumption | (simp [xE_setI, xsz_setI, xsl_setI, xtag_setI, xown_setI, xlen_setI, xE_setR, xsz_setR, xsl_setR, xtag_setR, xown_setR, xlen_setR, xE_setW, xsz_setW, xsl_setW, xtag_setW, xown_setW, xlen_setW, xi_setR, xi_setW, xr_setI, xr_setW, xww_setI, xww_setR, xi_setI, xr_setR, xww_setW, xE_new, xsz_new, xsl_new, t1, t3, t4, t5, t6, t8, xsub]; done) | (simp [xE_setI, xsz_setI, xsl_setI, xtag_setI, xown_setI, xlen_setI, xE_setR, xsz_setR, xsl_setR, xtag_setR, xown_setR, xlen_setR, xE_setW, xsz_setW, xsl_setW, xtag_setW, xown_setW, xlen_setW, xi_setR, xi_setW, xr_setI, xr_setW, xww_setI, xww_setR, xi_setI, xr_setR, xww_setW, xE_new, xsz_new, xsl_new, t1, t3, t4, t5, t6, t8] <;> rfl)) (by simp [xE_setI, xsz_setI, xsl_setI, xtag_setI, xown_setI, xlen_setI, xE_setR, xsz_setR, xsl_setR, xtag_setR, xown_setR, xlen_setR, xE_setW, xsz_setW, xsl_setW, xtag_setW, xown_setW, xlen_setW, xi_setR, xi_setW, xr_setI, xr_setW, xww_setI, xww_setR, xi_setI, xr_setR, xww_setW, xE_new, xsz_new, xsl_new, t1, t3, t4, t5, t6, t8]) ?_
  refine xw_alen (q := 7) (pc := 12) dJ18_size_12 (by simp [xE_setI, xsz_setI, xsl_setI, xtag_setI, xown_setI, xlen_setI, xE_setR, xsz_setR, xsl_setR, xtag_setR, xown_setR, xlen_setR, xE_setW, xsz_setW, xsl_setW, xtag_setW, xown_setW, xlen_setW, xi_setR, xi_setW, xr_setI, xr_setW, xww_setI, xww_setR, xi_setI, xr_setR, xww_setW, xE_new, xsz_new, xsl_new, t1, t3, t4, t5, t6, t8]) (by decide) ?_
  rw [show xlen _ arr = 17 from by simp [xE_setI, xsz_setI, xsl_setI, xtag_setI, xown_setI, xlen_setI, xE_setR, xsz_setR, xsl_setR, xtag_setR, xown_setR, xlen_setR, xE_setW, xsz_setW, xsl_setW, xtag_setW, xown_setW, xlen_setW, xi_setR, xi_setW, xr_setI, xr_setW, xww_setI, xww_setR, xi_setI, xr_setR, xww_setW, xE_new, xsz_new, xsl_new, t1, t3, t4, t5, t6, t8]]
  refine xw_callV (pc := 13) (xr_S (as := [_, _, _]) ok_J18_sub rfl (by decide) q1143 q1144 dJ18_size_13 rfl rfl (Nat.le_of_ble_eq_true rfl)) (SP_J18_sub (by omega) t9) ?_
  refine xw_iret (pc := 16) .int dJ18_size_16 rfl ?_ 
  exact ⟨by rw [show ((h + ls.length) % 17 + 17 - h) % 17 = ls.length from by omega], rfl⟩

theorem SP_J18_isEmpty {d : Nat} {g : xG} {o a arr h : Nat} {ls : List Nat} (hD : xAD g o a arr h ls) : XM M_J18_isEmpty d [.ref a] g (xOne (some (.int (bI (decide (ls.length = 0))))) g) := by
  have hD0 := hD
  obtain ⟨t1, t2, t3, t4, t5, t6, t7, t8, t9, t10, t11⟩ := hD
  refine xm_of (by decide +kernel) (Nat.le_of_ble_eq_true rfl) ?_
  show XW _ _ 0 [(0, _)] [] _ _
  refine xw_aload_n (pc := 0) dJ18_isEmpty_0 0 rfl ?_
  refine xw_getNat (k := h) (pc := 1) fd_J18_24 dJ18_isEmpty_1 (by first | assumption | (simp [xE_setI, xsz_setI, xsl_setI, xtag_setI, xown_setI, xlen_setI, xE_setR, xsz_setR, xsl_setR, xtag_setR, xown_setR, xlen_setR, xE_setW, xsz_setW, xsl_setW, xtag_setW, xown_setW, xlen_setW, xi_setR, xi_setW, xr_setI, xr_setW, xww_setI, xww_setR, xi_setI, xr_setR, xww_setW, xE_new, xsz_new, xsl_new, t1, t4, t5, xsub]; done) | (simp [xE_setI, xsz_setI, xsl_setI, xtag_setI, xown_setI, xlen_setI, xE_setR, xsz_setR, xsl_setR, xtag_setR, xown_setR, xlen_setR, xE_setW, xsz_setW, xsl_setW, xtag_setW, xown_setW, xlen_setW, xi_setR, xi_setW, xr_setI, xr_setW, xww_setI, xww_setR, xi_setI, xr_setR, xww_setW, xE_new, xsz_new, xsl_new, t1, t4, t5] <;> rfl)) (by simp [xE_setI, xsz_setI, xsl_setI, xtag_setI, xown_setI, xlen_setI, xE_setR, xsz_setR, xsl_setR, xtag_setR, xown_setR, xlen_setR, xE_setW, xsz_setW, xsl_setW, xtag_setW, xown_setW, xlen_setW, xi_setR, xi_setW, xr_setI, xr_setW, xww_setI, xww_setR, xi_setI, xr_setR, xww_setW, xE_new, xsz_new, xsl_new, t1, t4, t5]) ?_
  refine xw_aload_n (pc := 4) dJ18_isEmpty_4 0 rfl ?_
  refine xw_getNat (k := ((h + ls.length) % 17)) (pc := 5) fd_J18_20 dJ18_isEmpty_5 (by first | assumption | (simp [xE_setI, xsz_setI, xsl_setI, xtag_setI, xown_setI, xlen_setI, xE_setR, xsz_setR, xsl_setR, xtag_setR, xown_setR, xlen_setR, xE_setW, xsz_setW, xsl_setW, xtag_setW, xown_setW, xlen_setW, xi_setR, xi_setW, xr_setI, xr_setW, xww_setI, xww_setR, xi_setI, xr_setR, xww_setW, xE_new, xsz_new, xsl_new, t1, t4, t5, xsub]; done) | (simp [xE_setI, xsz_setI, xsl_setI, xtag_setI, xown_setI, xlen_setI, xE_setR, xsz_setR, xsl_setR, xtag_setR, xown_setR, xlen_setR, xE_setW, xsz_setW, xsl_setW, xtag_setW, xown_setW, xlen_setW, xi_setR, xi_setW, xr_setI, xr_setW, xww_setI, xww_setR, xi_setI, xr_setR, xww_setW, xE_new, xsz_new, xsl_new, t1, t4, t5] <;> rfl)) (by simp [xE_setI, xsz_setI, xsl_setI, xtag_setI, xown_setI, xlen_setI, xE_setR, xsz_setR, xsl_setR, xtag_setR, xown_setR, xlen_setR, xE_setW, xsz_setW, xsl_setW, xtag_setW, xown_setW, xlen_setW, xi_setR, xi_setW, xr_setI, xr_setW, xww_setI, xww_setR, xi_setI, xr_setR, xww_setW, xE_new, xsz_new, xsl_new, t1, t4, t5]) ?_
  refine xw_icmp_ne (pc := 8) 15 dJ18_isEmpty_8 rfl (fun hb8 => ?_) (fun hb8 => ?_)
  · replace hb8 : ¬ (h = ((h + ls.length) % 17)) := mt (nI_eq (a := h) (b := ((h + ls.length) % 17)) (by omega) (by omega)).mpr hb8
    refine xw_iconst (v := nI 0) (pc := 15) dJ18_isEmpty_15 rfl ?_
    refine xw_iret (pc := 16) .boolean dJ18_isEmpty_16 rfl ?_ 
    refine ⟨?_, rfl⟩
    by_cases e : ls.length = 0
    · first | (simp [e]; done) | (exfalso; omega) | (simp [e]; rfl)
    · first | (simp [e]; done) | (exfalso; omega) | (simp [e]; rfl)
  · replace hb8 : h = ((h + ls.length) % 17) := (nI_eq (a := h) (b := ((h + ls.length) % 17)) (by omega) (by omega)).mp hb8
    refine xw_iconst (v := nI 1) (pc := 11) dJ18_isEmpty_11 rfl ?_
    refine xw_goto (pc := 12) 16 dJ18_isEmpty_12 rfl ?_
    refine xw_iret (pc := 16) .boolean dJ18_isEmpty_16 rfl ?_ 
    refine ⟨?_, rfl⟩
    by_cases e : ls.length = 0
    · first | (simp [e]; done) | (exfalso; omega) | (simp [e]; rfl)
    · first | (simp [e]; done) | (exfalso; omega) | (simp [e]; rfl)

theorem SP_J18_elementAt {d : Nat} {g : xG} {arr k b : Nat} (t6 : xtag g arr = 108) (hk : k < xlen g arr) (hk2 : k < 1000) (e9 : xr g arr k = some b) : XM M_J18_elementAt d [.ref arr, .int (nI k)] g (xOne (some (.ref b)) g) := by
  refine xm_of (by decide +kernel) (Nat.le_of_ble_eq_true rfl) ?_
  show XW _ _ 0 [(0, _), (1, _)] [] _ _
  refine xw_aload_n (pc := 0) dJ18_elementAt_0 0 rfl ?_
  refine xw_iload_n (pc := 1) dJ18_elementAt_1 1 rfl ?_
  refine xw_aald (q := 7) (k := k) (pc := 2) dJ18_elementAt_2 (by simp [xE_setI, xsz_setI, xsl_setI, xtag_setI, xown_setI, xlen_setI, xE_setR, xsz_setR, xsl_setR, xtag_setR, xown_setR, xlen_setR, xE_setW, xsz_setW, xsl_setW, xtag_setW, xown_setW, xlen_setW, xi_setR, xi_setW, xr_setI, xr_setW, xww_setI, xww_setR, xi_setI, xr_setR, xww_setW, xE_new, xsz_new, xsl_new, t6]) (by decide) (by decide) rfl (by omega) ?_
  rw [show xr g arr k = some b from by exact e9]
  refine xw_aret (pc := 3) (.object "java/lang/Object") dJ18_elementAt_3 rfl ?_
  exact ⟨rfl, rfl⟩

theorem SP_J18_addLast {d : Nat} {g : xG} {o a arr h : Nat} {ls : List Nat} (hD : xAD g o a arr h ls) (ho : o ≠ 0) {b : Nat} (hb : xObj g b) (hm : ls.length < 15) : XM M_J18_addLast (d + 1) [.ref a, .ref b] g (xVoid (fun g' => xAD g' o a arr h (ls ++ [b]) ∧ xFr (oEq o) 0 g g')) := by
  have hD0 := hD
  obtain ⟨t1, t2, t3, t4, t5, t6, t7, t8, t9, t10, t11⟩ := hD
  have hna : xown g a ≠ 0 := by rw [t2]; exact ho
  have hnr : xown g arr ≠ 0 := by rw [t7]; exact ho
  have hne : a ≠ arr := fun q => by rw [q, t6] at t1; cases t1
  have hne2 : arr ≠ a := fun q => hne q.symm
  have ha : a < xsz g := xlt (by rw [t1]; decide)
  have hr : arr < xsz g := xlt (by rw [t6]; decide)
  have nta : xtag g a ≠ 0 := by rw [t1]; decide
  have ntr : xtag g arr ≠ 0 := by rw [t6]; decide
  refine xm_of (by decide +kernel) (Nat.le_of_ble_eq_true rfl) ?_
  show XW _ _ 0 [(0, _), (1, _)] [] _ _
  refine xw_aload_n (pc := 0) dJ18_addLast_0 1 rfl ?_
  refine xw_ifnonnull (pc := 1) 12 dJ18_addLast_1 rfl ?_
  refine xw_aload_n (pc := 12) dJ18_addLast_12 0 rfl ?_
  refine xw_getS (b := arr) (pc := 13) fd_J18_3 dJ18_addLast_13 (by first | assumption | (simp [xE_setI, xsz_setI, xsl_setI, xtag_setI, xown_setI, xlen_setI, xE_setR, xsz_setR, xsl_setR, xtag_setR, xown_setR, xlen_setR, xE_setW, xsz_setW, xsl_setW, xtag_setW, xown_setW, xlen_setW, xi_setR, xi_setW, xr_setI, xr_setW, xww_setI, xww_setR, xi_setI, xr_setR, xww_setW, xE_new, xsz_new, xsl_new, t1, t3, t4, t5, t6, t8, hna, hnr, nta, ntr, hne, hne2, xsub]; done) | (simp [xE_setI, xsz_setI, xsl_setI, xtag_setI, xown_setI, xlen_setI, xE_setR, xsz_setR, xsl_setR, xtag_setR, xown_setR, xlen_setR, xE_setW, xsz_setW, xsl_setW, xtag_setW, xown_setW, xlen_setW, xi_setR, xi_setW, xr_setI, xr_setW, xww_setI, xww_setR, xi_setI, xr_setR, xww_setW, xE_new, xsz_new, xsl_new, t1, t3, t4, t5, t6, t8, hna, hnr, nta, ntr, hne, hne2] <;> rfl)) (by simp [xE_setI, xsz_setI, xsl_setI, xtag_setI, xown_setI, xlen_setI, xE_setR, xsz_setR, xsl_setR, xtag_setR, xown_setR, xlen_setR, xE_setW, xsz_setW, xsl_setW, xtag_setW, xown_setW, xlen_setW, xi_setR, xi_setW, xr_setI, xr_setW, xww_setI, xww_setR, xi_setI, xr_setR, xww_setW, xE_new, xsz_new, xsl_new, t1, t3, t4, t5, t6, t8, hna, hnr, nta, ntr, hne, hne2]) ?_
  refine xw_astore_n (l' := [(2, _), (0, _), (1, _)]) (pc := 16) dJ18_addLast_16 rfl (by decide) rfl ?_
  refine xw_aload_n (pc := 17) dJ18_addLast_17 0 rfl ?_
  refine xw_aload_n (pc := 18) dJ18_addLast_18 1 rfl ?_
  refine xw_getNat (k := ((h + ls.length) % 17)) (pc := 19) fd_J18_20 dJ18_addLast_19 (by first | assumption | (simp [xE_setI, xsz_setI, xsl_setI, xtag_setI, xown_setI, xlen_setI, xE_setR, xsz_setR, xsl_setR, xtag_setR, xown_setR, xlen_setR, xE_setW, xsz_setW, xsl_setW, xtag_setW, xown_setW, xlen_setW, xi_setR, xi_setW, xr_setI, xr_setW, xww_setI, xww_setR, xi_setI, xr_setR, xww_setW, xE_new, xsz_new, xsl_new, t1, t3, t4, t5, t6, t8, hna, hnr, nta, ntr, hne, hne2, xsub]; done) | (simp [xE_setI, xsz_setI, xsl_setI, xtag_setI, xown_setI, xlen_setI, xE_setR, xsz_setR, xsl_setR, xtag_setR, xown_setR, xlen_setR, xE_setW, xsz_setW, xsl_setW, xtag_setW, xown_setW, xlen_setW, xi_setR, xi_setW, xr_setI, xr_setW, xww_setI, xww_setR, xi_setI, xr_setR, xww_setW, xE_new, xsz_new, xsl_new, t1, t3, t4, t5, t6, t8, hna, hnr, nta, ntr, hne, hne2] <;> rfl)) (by simp [xE_setI, xsz_setI, xsl_setI, xtag_setI, xown_setI, xlen_setI, xE_setR, xsz_setR, xsl_setR, xtag_setR, xown_setR, xlen_setR, xE_setW, xsz_setW, xsl_setW, xtag_setW, xown_setW, xlen_setW, xi_setR, xi_setW, xr_setI, xr_setW, xww_setI, xww_setR, xi_setI, xr_setR, xww_setW, xE_new, xsz_new, xsl_new, t1, t3, t4, t5, t6, t8, hna, hnr, nta, ntr, hne, hne2]) ?_
  refine xw_aload_n (pc := 22) dJ18_addLast_22 2 rfl ?_
  refine xw_aast (q := 7) (k := ((h + ls.length) % 17)) (pc := 23) dJ18_addLast_23 (by simp [xE_setI, xsz_setI, xsl_setI, xtag_setI, xown_setI, xlen_setI, xE_setR, xsz_setR, xsl_setR, xtag_setR, xown_setR, xlen_setR, xE_setW, xsz_setW, xsl_setW, xtag_setW, xown_setW, xlen_setW, xi_setR, xi_setW, xr_setI, xr_setW, xww_setI, xww_setR, xi_setI, xr_setR, xww_setW, xE_new, xsz_new, xsl_new, t1, t3, t4, t5, t6, t8, hna, hnr, nta, ntr, hne, hne2]) (by decide) (by decide) rfl (by first | assumption | (simp [xE_setI, xsz_setI, xsl_setI, xtag_setI, xown_setI, xlen_setI, xE_setR, xsz_setR, xsl_setR, xtag_setR, xown_setR, xlen_setR, xE_setW, xsz_setW, xsl_setW, xtag_setW, xown_setW, xlen_setW, xi_setR, xi_setW, xr_setI, xr_setW, xww_setI, xww_setR, xi_setI, xr_setR, xww_setW, xE_new, xsz_new, xsl_new, t1, t3, t4, t5, t6, t8, hna, hnr, nta, ntr, hne, hne2]; done) | (simp [xE_setI, xsz_setI, xsl_setI, xtag_setI, xown_setI, xlen_setI, xE_setR, xsz_setR, xsl_setR, xtag_setR, xown_setR, xlen_setR, xE_setW, xsz_setW, xsl_setW, xtag_setW, xown_setW, xlen_setW, xi_setR, xi_setW, xr_setI, xr_setW, xww_setI, xww_setR, xi_setI, xr_setR, xww_setW, xE_new, xsz_new, xsl_new, t1, t3, t4, t5, t6, t8, hna, hnr, nta, ntr, hne, hne2]; assumption)) rfl (by rw [t8]; omega) (by exact hb.1) (by exact hb.2) ?_
  refine xw_aload_n (pc := 24) dJ18_addLast_24 1 rfl ?_
  refine xw_getNat (k := h) (pc := 25) fd_J18_24 dJ18_addLast_25 (by first | assumption | (simp [xE_setI, xsz_setI, xsl_setI, xtag_setI, xown_setI, xlen_setI, xE_setR, xsz_setR, xsl_setR, xtag_setR, xown_setR, xlen_setR, xE_setW, xsz_setW, xsl_setW, xtag_setW, xown_setW, xlen_setW, xi_setR, xi_setW, xr_setI, xr_setW, xww_setI, xww_setR, xi_setI, xr_setR, xww_setW, xE_new, xsz_new, xsl_new, t1, t3, t4, t5, t6, t8, hna, hnr, nta, ntr, hne, hne2, xsub]; done) | (simp [xE_setI, xsz_setI, xsl_setI, xtag_setI, xown_setI, xlen_setI, xE_setR, xsz_setR, xsl_setR, xtag_setR, xown_setR, xlen_setR, xE_setW, xsz_setW, xsl_setW, xtag_setW, xown_setW, xlen_setW, xi_setR, xi_setW, xr_setI, xr_setW, xww_setI, xww_setR, xi_setI, xr_setR, xww_setW, xE_new, xsz_new, xsl_new, t1, t3, t4, t5, t6, t8, hna, hnr, nta, ntr, hne, hne2] <;> rfl)) (by simp [xE_setI, xsz_setI, xsl_setI, xtag_setI, xown_setI, xlen_setI, xE_setR, xsz_setR, xsl_setR, xtag_setR, xown_setR, xlen_setR, xE_setW, xsz_setW, xsl_setW, xtag_setW, xown_setW, xlen_setW, xi_setR, xi_setW, xr_setI, xr_setW, xww_setI, xww_setR, xi_setI, xr_setR, xww_setW, xE_new, xsz_new, xsl_new, t1, t3, t4, t5, t6, t8, hna, hnr, nta, ntr, hne, hne2]) ?_
  refine xw_aload_n (pc := 28) dJ18_addLast_28 1 rfl ?_
  refine xw_aload_n (pc := 29) dJ18_addLast_29 1 rfl ?_
  refine xw_getNat (k := ((h + ls.length) % 17)) (pc := 30) fd_J18_20 dJ18_addLast_30 (by first | assumption | (simp [xE_setI, xsz_setI, xsl_setI, xtag_setI, xown_setI, xlen_setI, xE_setR, xsz_setR, xsl_setR, xtag_setR, xown_setR, xlen_setR, xE_setW, xsz_setW, xsl_setW, xtag_setW, xown_setW, xlen_setW, xi_setR, xi_setW, xr_setI, xr_setW, xww_setI, xww_setR, xi_setI, xr_setR, xww_setW, xE_new, xsz_new, xsl_new, t1, t3, t4, t5, t6, t8, hna, hnr, nta, ntr, hne, hne2, xsub]; done) | (simp [xE_setI, xsz_setI, xsl_setI, xtag_setI, xown_setI, xlen_setI, xE_setR, xsz_setR, xsl_setR, xtag_setR, xown_setR, xlen_setR, xE_setW, xsz_setW, xsl_setW, xtag_setW, xown_setW, xlen_setW, xi_setR, xi_setW, xr_setI, xr_setW, xww_setI, xww_setR, xi_setI, xr_setR, xww_setW, xE_new, xsz_new, xsl_new, t1, t3, t4, t5, t6, t8, hna, hnr, nta, ntr, hne, hne2] <;> rfl)) (by simp [xE_setI, xsz_setI, xsl_setI, xtag_setI, xown_setI, xlen_setI, xE_setR, xsz_setR, xsl_setR, xtag_setR, xown_setR, xlen_setR, xE_setW, xsz_setW, xsl_setW, xtag_setW, xown_setW, xlen_setW, xi_setR, xi_setW, xr_setI, xr_setW, xww_setI, xww_setR, xi_setI, xr_setR, xww_setW, xE_new, xsz_new, xsl_new, t1, t3, t4, t5, t6, t8, hna, hnr, nta, ntr, hne, hne2]) ?_
  refine xw_aload_n (pc := 33) dJ18_addLast_33 0 rfl ?_
  refine xw_alen (q := 7) (pc := 34) dJ18_addLast_34 (by simp [xE_setI, xsz_setI, xsl_setI, xtag_setI, xown_setI, xlen_setI, xE_setR, xsz_setR, xsl_setR, xtag_setR, xown_setR, xlen_setR, xE_setW, xsz_setW, xsl_setW, xtag_setW, xown_setW, xlen_setW, xi_setR, xi_setW, xr_setI, xr_setW, xww_setI, xww_setR, xi_setI, xr_setR, xww_setW, xE_new, xsz_new, xsl_new, t1, t3, t4, t5, t6, t8, hna, hnr, nta, ntr, hne, hne2]) (by decide) ?_
  rw [show xlen _ arr = 17 from by simp [xE_setI, xsz_setI, xsl_setI, xtag_setI, xown_setI, xlen_setI, xE_setR, xsz_setR, xsl_setR, xtag_setR, xown_setR, xlen_setR, xE_setW, xsz_setW, xsl_setW, xtag_setW, xown_setW, xlen_setW, xi_setR, xi_setW, xr_setI, xr_setW, xww_setI, xww_setR, xi_setI, xr_setR, xww_setW, xE_new, xsz_new, xsl_new, t1, t3, t4, t5, t6, t8, hna, hnr, nta, ntr, hne, hne2]]
  refine xw_callV (pc := 35) (xr_S (as := [_, _]) ok_J18_inc rfl (by decide) q1118 q1119 dJ18_addLast_35 rfl rfl (Nat.le_of_ble_eq_true rfl)) (SP_J18_inc (by omega)) ?_
  refine xw_dup_x1 (pc := 38) dJ18_addLast_38 rfl rfl ?_
  refine xw_putI (pc := 39) fd_J18_20 (xfin_of (by decide) (by decide +kernel)) dJ18_addLast_39 (by first | assumption | (simp [xE_setI, xsz_setI, xsl_setI, xtag_setI, xown_setI, xlen_setI, xE_setR, xsz_setR, xsl_setR, xtag_setR, xown_setR, xlen_setR, xE_setW, xsz_setW, xsl_setW, xtag_setW, xown_setW, xlen_setW, xi_setR, xi_setW, xr_setI, xr_setW, xww_setI, xww_setR, xi_setI, xr_setR, xww_setW, xE_new, xsz_new, xsl_new, t1, t3, t4, t5, t6, t8, hna, hnr, nta, ntr, hne, hne2, xsub]; done) | (simp [xE_setI, xsz_setI, xsl_setI, xtag_setI, xown_setI, xlen_setI, xE_setR, xsz_setR, xsl_setR, xtag_setR, xown_setR, xlen_setR, xE_setW, xsz_setW, xsl_setW, xtag_setW, xown_setW, xlen_setW, xi_setR, xi_setW, xr_setI, xr_setW, xww_setI, xww_setR, xi_setI, xr_setR, xww_setW, xE_new, xsz_new, xsl_new, t1, t3, t4, t5, t6, t8, hna, hnr, nta, ntr, hne, hne2] <;> rfl)) (by first | assumption | (simp [xE_setI, xsz_setI, xsl_setI, xtag_setI, xown_setI, xlen_setI, xE_setR, xsz_setR, xsl_setR, xtag_setR, xown_setR, xlen_setR, xE_setW, xsz_setW, xsl_setW, xtag_setW, xown_setW, xlen_setW, xi_setR, xi_setW, xr_setI, xr_setW, xww_setI, xww_setR, xi_setI, xr_setR, xww_setW, xE_new, xsz_new, xsl_new, t1, t3, t4, t5, t6, t8, hna, hnr, nta, ntr, hne, hne2]; done) | (simp [xE_setI, xsz_setI, xsl_setI, xtag_setI, xown_setI, xlen_setI, xE_setR, xsz_setR, xsl_setR, xtag_setR, xown_setR, xlen_setR, xE_setW, xsz_setW, xsl_setW, xtag_setW, xown_setW, xlen_setW, xi_setR, xi_setW, xr_setI, xr_setW, xww_setI, xww_setR, xi_setI, xr_setR, xww_setW, xE_new, xsz_new, xsl_new, t1, t3, t4, t5, t6, t8, hna, hnr, nta, ntr, hne, hne2]; assumption)) ?_
  refine xw_icmp_ne (pc := 42) 50 dJ18_addLast_42 rfl (fun hb42 => ?_) (fun hb42 => ?_)
  rotate_left
  · exfalso
    replace hb42 : h = (((h + ls.length) % 17 + 1) % 17) := (nI_eq (a := h) (b := (((h + ls.length) % 17 + 1) % 17)) (by omega) (by omega)).mp hb42
    omega
  replace hb42 : ¬ (h = (((h + ls.length) % 17 + 1) % 17)) := mt (nI_eq (a := h) (b := (((h + ls.length) % 17 + 1) % 17)) (by omega) (by omega)).mpr hb42
  refine xw_vret (pc := 50) dJ18_addLast_50 rfl ?_
  refine ⟨rfl, ⟨?_, ?_, ?_, ?_, ?_, ?_, ?_, ?_, t9, ?_, fun i hi => ?_⟩, (xFr.rf.sr (Or.inr t7)).si (Or.inr (by rw [xown_setR]; exact t2))⟩
  · rw [xtag_setI, xtag_setR]; exact t1
  · rw [xown_setI, xown_setR]; exact t2
  · rw [xr_setI, xr_setRN hne]; exact t3
  · rw [xi_setIK (by decide), xi_setR]; exact t4
  · rw [xi_setIS (by rw [xtag_setR, t1]; decide), List.length_append, List.length_singleton]
    congr 1
    omega
  · rw [xtag_setI, xtag_setR]; exact t6
  · rw [xown_setI, xown_setR]; exact t7
  · rw [xlen_setI, xlen_setR]; exact t8
  · rw [List.length_append, List.length_singleton]; omega
  · rw [List.length_append, List.length_singleton] at hi
    rw [xr_setI, xr_setR ntr]
    by_cases q : i = ls.length
    · subst q
      rw [if_pos ⟨rfl, rfl⟩]
      simp
    · rw [if_neg (fun z => by have := z.2; omega), t11 i (by omega), List.getD_eq_getElem?_getD, List.getD_eq_getElem?_getD, List.getElem?_append_left (by omega)]

theorem SP_J18_pollFirst {d : Nat} {g : xG} {o a arr h b : Nat} {ls : List Nat} (hD : xAD g o a arr h (b :: ls)) (ho : o ≠ 0) : XM M_J18_pollFirst (d + 1) [.ref a] g (xVal (.ref b) (fun g' => xAD g' o a arr ((h + 1) % 17) ls ∧ xFr (oEq o) 0 g g')) := by
  have hD0 := hD
  obtain ⟨t1, t2, t3, t4, t5, t6, t7, t8, t9, t10, t11⟩ := hD
  have hna : xown g a ≠ 0 := by rw [t2]; exact ho
  have hnr : xown g arr ≠ 0 := by rw [t7]; exact ho
  have hne : a ≠ arr := fun q => by rw [q, t6] at t1; cases t1
  have hne2 : arr ≠ a := fun q => hne q.symm
  have ha : a < xsz g := xlt (by rw [t1]; decide)
  have hr : arr < xsz g := xlt (by rw [t6]; decide)
  have nta : xtag g a ≠ 0 := by rw [t1]; decide
  have ntr : xtag g arr ≠ 0 := by rw [t6]; decide
  rw [List.length_cons] at t5 t10
  have e9 : xr g arr h = some b := by have e := t11 0 (by simp); rw [Nat.add_zero, Nat.mod_eq_of_lt t9] at e; exact e
  refine xm_of (by decide +kernel) (Nat.le_of_ble_eq_true rfl) ?_
  show XW _ _ 0 [(0, _)] [] _ _
  refine xw_aload_n (pc := 0) dJ18_pollFirst_0 0 rfl ?_
  refine xw_getS (b := arr) (pc := 1) fd_J18_3 dJ18_pollFirst_1 (by first | assumption | (simp [xE_setI, xsz_setI, xsl_setI, xtag_setI, xown_setI, xlen_setI, xE_setR, xsz_setR, xsl_setR, xtag_setR, xown_setR, xlen_setR, xE_setW, xsz_setW, xsl_setW, xtag_setW, xown_setW, xlen_setW, xi_setR, xi_setW, xr_setI, xr_setW, xww_setI, xww_setR, xi_setI, xr_setR, xww_setW, xE_new, xsz_new, xsl_new, t1, t3, t4, t5, t6, t8, hna, hnr, nta, ntr, hne, hne2, xsub]; done) | (simp [xE_setI, xsz_setI, xsl_setI, xtag_setI, xown_setI, xlen_setI, xE_setR, xsz_setR, xsl_setR, xtag_setR, xown_setR, xlen_setR, xE_setW, xsz_setW, xsl_setW, xtag_setW, xown_setW, xlen_setW, xi_setR, xi_setW, xr_setI, xr_setW, xww_setI, xww_setR, xi_setI, xr_setR, xww_setW, xE_new, xsz_new, xsl_new, t1, t3, t4, t5, t6, t8, hna, hnr, nta, ntr, hne, hne2] <;> rfl)) (by simp [xE_setI, xsz_setI, xsl_setI, xtag_setI, xown_setI, xlen_setI, xE_setR, xsz_setR, xsl_setR, xtag_setR, xown_setR, xlen_setR, xE_setW, xsz_setW, xsl_setW, xtag_setW, xown_setW, xlen_setW, xi_setR, xi_setW, xr_setI, xr_setW, xww_setI, xww_setR, xi_setI, xr_setR, xww_setW, xE_new, xsz_new, xsl_new, t1, t3, t4, t5, t6, t8, hna, hnr, nta, ntr, hne, hne2]) ?_
  refine xw_dup (pc := 4) dJ18_pollFirst_4 rfl ?_
  refine xw_astore_n (l' := [(1, _), (0, _)]) (pc := 5) dJ18_pollFirst_5 rfl (by decide) rfl ?_
  refine xw_aload_n (pc := 6) dJ18_pollFirst_6 1 rfl ?_
  refine xw_getNat (k := h) (pc := 7) fd_J18_24 dJ18_pollFirst_7 (by first | assumption | (simp [xE_setI, xsz_setI, xsl_setI, xtag_setI, xown_setI, xlen_setI, xE_setR, xsz_setR, xsl_setR, xtag_setR, xown_setR, xlen_setR, xE_setW, xsz_setW, xsl_setW, xtag_setW, xown_setW, xlen_setW, xi_setR, xi_setW, xr_setI, xr_setW, xww_setI, xww_setR, xi_setI, xr_setR, xww_setW, xE_new, xsz_new, xsl_new, t1, t3, t4, t5, t6, t8, hna, hnr, nta, ntr, hne, hne2, xsub]; done) | (simp [xE_setI, xsz_setI, xsl_setI, xtag_setI, xown_setI, xlen_setI, xE_setR, xsz_setR, xsl_setR, xtag_setR, xown_setR, xlen_setR, xE_setW, xsz_setW, xsl_setW, xtag_setW, xown_setW, xlen_setW, xi_setR, xi_setW, xr_setI, xr_setW, xww_setI, xww_setR, xi_setI, xr_setR, xww_setW, xE_new, xsz_new, xsl_new, t1, t3, t4, t5, t6, t8, hna, hnr, nta, ntr, hne, hne2] <;> rfl)) (by simp [xE_setI, xsz_setI, xsl_setI, xtag_setI, xown_setI, xlen_setI, xE_setR, xsz_setR, xsl_setR, xtag_setR, xown_setR, xlen_setR, xE_setW, xsz_setW, xsl_setW, xtag_setW, xown_setW, xlen_setW, xi_setR, xi_setW, xr_setI, xr_setW, xww_setI, xww_setR, xi_setI, xr_setR, xww_setW, xE_new, xsz_new, xsl_new, t1, t3, t4, t5, t6, t8, hna, hnr, nta, ntr, hne, hne2]) ?_
  refine xw_dup (pc := 10) dJ18_pollFirst_10 rfl ?_
  refine xw_istore_n (l' := [(2, _), (1, _), (0, _)]) (pc := 11) dJ18_pollFirst_11 rfl (by decide) rfl ?_
  refine xw_callV (pc := 12) (xr_S (as := [_, _]) ok_J18_elementAt rfl (by decide) q1154 q1155 dJ18_pollFirst_12 rfl rfl (Nat.le_of_ble_eq_true rfl)) (SP_J18_elementAt t6 (by rw [t8]; exact t9) (by omega) e9) ?_
  refine xw_astore_n (l' := [(3, _), (2, _), (1, _), (0, _)]) (pc := 15) dJ18_pollFirst_15 rfl (by decide) rfl ?_
  refine xw_aload_n (pc := 16) dJ18_pollFirst_16 0 rfl ?_
  refine xw_ifnull (pc := 17) dJ18_pollFirst_17 ?_
  refine xw_aload_n (pc := 20) dJ18_pollFirst_20 2 rfl ?_
  refine xw_iload_n (pc := 21) dJ18_pollFirst_21 1 rfl ?_
  refine xw_null (pc := 22) dJ18_pollFirst_22 ?_
  refine xw_aastN (q := 7) (k := h) (pc := 23) dJ18_pollFirst_23 (by simp [xE_setI, xsz_setI, xsl_setI, xtag_setI, xown_setI, xlen_setI, xE_setR, xsz_setR, xsl_setR, xtag_setR, xown_setR, xlen_setR, xE_setW, xsz_setW, xsl_setW, xtag_setW, xown_setW, xlen_setW, xi_setR, xi_setW, xr_setI, xr_setW, xww_setI, xww_setR, xi_setI, xr_setR, xww_setW, xE_new, xsz_new, xsl_new, t1, t3, t4, t5, t6, t8, hna, hnr, nta, ntr, hne, hne2]) (by decide) (by decide) rfl (by first | assumption | (simp [xE_setI, xsz_setI, xsl_setI, xtag_setI, xown_setI, xlen_setI, xE_setR, xsz_setR, xsl_setR, xtag_setR, xown_setR, xlen_setR, xE_setW, xsz_setW, xsl_setW, xtag_setW, xown_setW, xlen_setW, xi_setR, xi_setW, xr_setI, xr_setW, xww_setI, xww_setR, xi_setI, xr_setR, xww_setW, xE_new, xsz_new, xsl_new, t1, t3, t4, t5, t6, t8, hna, hnr, nta, ntr, hne, hne2]; done) | (simp [xE_setI, xsz_setI, xsl_setI, xtag_setI, xown_setI, xlen_setI, xE_setR, xsz_setR, xsl_setR, xtag_setR, xown_setR, xlen_setR, xE_setW, xsz_setW, xsl_setW, xtag_setW, xown_setW, xlen_setW, xi_setR, xi_setW, xr_setI, xr_setW, xww_setI, xww_setR, xi_setI, xr_setR, xww_setW, xE_new, xsz_new, xsl_new, t1, t3, t4, t5, t6, t8, hna, hnr, nta, ntr, hne, hne2]; assumption)) rfl (by rw [t8]; omega) ?_
  refine xw_aload_n (pc := 24) dJ18_pollFirst_24 3 rfl ?_
  refine xw_iload_n (pc := 25) dJ18_pollFirst_25 1 rfl ?_
  refine xw_aload_n (pc := 26) dJ18_pollFirst_26 2 rfl ?_
  refine xw_alen (q := 7) (pc := 27) dJ18_pollFirst_27 (by simp [xE_setI, xsz_setI, xsl_setI, xtag_setI, xown_setI, xlen_setI, xE_setR, xsz_setR, xsl_setR, xtag_setR, xown_setR, xlen_setR, xE_setW, xsz_setW, xsl_setW, xtag_setW, xown_setW, xlen_setW, xi_setR, xi_setW, xr_setI, xr_setW, xww_setI, xww_setR, xi_setI, xr_setR, xww_setW, xE_new, xsz_new, xsl_new, t1, t3, t4, t5, t6, t8, hna, hnr, nta, ntr, hne, hne2]) (by decide) ?_
  rw [show xlen _ arr = 17 from by simp [xE_setI, xsz_setI, xsl_setI, xtag_setI, xown_setI, xlen_setI, xE_setR, xsz_setR, xsl_setR, xtag_setR, xown_setR, xlen_setR, xE_setW, xsz_setW, xsl_setW, xtag_setW, xown_setW, xlen_setW, xi_setR, xi_setW, xr_setI, xr_setW, xww_setI, xww_setR, xi_setI, xr_setR, xww_setW, xE_new, xsz_new, xsl_new, t1, t3, t4, t5, t6, t8, hna, hnr, nta, ntr, hne, hne2]]
  refine xw_callV (pc := 28) (xr_S (as := [_, _]) ok_J18_inc rfl (by decide) q1118 q1119 dJ18_pollFirst_28 rfl rfl (Nat.le_of_ble_eq_true rfl)) (SP_J18_inc t9) ?_
  refine xw_putI (pc := 31) fd_J18_24 (xfin_of (by decide) (by decide +kernel)) dJ18_pollFirst_31 (by first | assumption | (simp [xE_setI, xsz_setI, xsl_setI, xtag_setI, xown_setI, xlen_setI, xE_setR, xsz_setR, xsl_setR, xtag_setR, xown_setR, xlen_setR, xE_setW, xsz_setW, xsl_setW, xtag_setW, xown_setW, xlen_setW, xi_setR, xi_setW, xr_setI, xr_setW, xww_setI, xww_setR, xi_setI, xr_setR, xww_setW, xE_new, xsz_new, xsl_new, t1, t3, t4, t5, t6, t8, hna, hnr, nta, ntr, hne, hne2, xsub]; done) | (simp [xE_setI, xsz_setI, xsl_setI, xtag_setI, xown_setI, xlen_setI, xE_setR, xsz_setR, xsl_setR, xtag_setR, xown_setR, xlen_setR, xE_setW, xsz_setW, xsl_setW, xtag_setW, xown_setW, xlen_setW, xi_setR, xi_setW, xr_setI, xr_setW, xww_setI, xww_setR, xi_setI, xr_setR, xww_setW, xE_new, xsz_new, xsl_new, t1, t3, t4, t5, t6, t8, hna, hnr, nta, ntr, hne, hne2] <;> rfl)) (by first | assumption | (simp [xE_setI, xsz_setI, xsl_setI, xtag_setI, xown_setI, xlen_setI, xE_setR, xsz_setR, xsl_setR, xtag_setR, xown_setR, xlen_setR, xE_setW, xsz_setW, xsl_setW, xtag_setW, xown_setW, xlen_setW, xi_setR, xi_setW, xr_setI, xr_setW, xww_setI, xww_setR, xi_setI, xr_setR, xww_setW, xE_new, xsz_new, xsl_new, t1, t3, t4, t5, t6, t8, hna, hnr, nta, ntr, hne, hne2]; done) | (simp [xE_setI, xsz_setI, xsl_setI, xtag_setI, xown_setI, xlen_setI, xE_setR, xsz_setR, xsl_setR, xtag_setR, xown_setR, xlen_setR, xE_setW, xsz_setW, xsl_setW, xtag_setW, xown_setW, xlen_setW, xi_setR, xi_setW, xr_setI, xr_setW, xww_setI, xww_setR, xi_setI, xr_setR, xww_setW, xE_new, xsz_new, xsl_new, t1, t3, t4, t5, t6, t8, hna, hnr, nta, ntr, hne, hne2]; assumption)) ?_
  refine xw_aload_n (pc := 34) dJ18_pollFirst_34 0 rfl ?_
  refine xw_aret (pc := 35) (.object "java/lang/Object") dJ18_pollFirst_35 rfl ?_
  refine ⟨rfl, ⟨?_, ?_, ?_, ?_, ?_, ?_, ?_, ?_, by omega, by omega, fun i hi => ?_⟩, (xFr.rf.sr (Or.inr t7)).si (Or.inr (by rw [xown_setR]; exact t2))⟩
  · rw [xtag_setI, xtag_setR]; exact t1
  · rw [xown_setI, xown_setR]; exact t2
  · rw [xr_setI, xr_setRN hne]; exact t3
  · rw [xi_setIS (by rw [xtag_setR, t1]; decide)]
  · rw [xi_setIK (by decide), xi_setR, t5]
    congr 1
    omega
  · rw [xtag_setI, xtag_setR]; exact t6
  · rw [xown_setI, xown_setR]; exact t7
  · rw [xlen_setI, xlen_setR]; exact t8
  · have e := t11 (i + 1) (by rw [List.length_cons]; omega)
    rw [xr_setI, xr_setRK (by omega), show ((h + 1) % 17 + i) % 17 = (h + (i + 1)) % 17 from by omega, e]
    rfl

theorem SP_J18_removeFirst {d : Nat} {g : xG} {o a arr h b : Nat} {ls : List Nat} (hD : xAD g o a arr h (b :: ls)) (ho : o ≠ 0) : XM M_J18_removeFirst (d + 2) [.ref a] g (xVal (.ref b) (fun g' => xAD g' o a arr ((h + 1) % 17) ls ∧ xFr (oEq o) 0 g g')) := by
  have t1 := hD.1
  refine xm_of (by decide +kernel) (Nat.le_of_ble_eq_true rfl) ?_
  show XW _ _ 0 [(0, _)] [] _ _
  refine xw_aload_n (pc := 0) dJ18_removeFirst_0 0 rfl ?_
  refine xw_callF (pc := 1) (xr_V (as := []) ok_J18_pollFirst rfl (by decide) q1150 q1151 q1152 (by first | rfl | (simp [xE_setI, xsz_setI, xsl_setI, xtag_setI, xown_setI, xlen_setI, xE_setR, xsz_setR, xsl_setR, xtag_setR, xown_setR, xlen_setR, xE_setW, xsz_setW, xsl_setW, xtag_setW, xown_setW, xlen_setW, xi_setR, xi_setW, xr_setI, xr_setW, xww_setI, xww_setR, xi_setI, xr_setR, xww_setW, xE_new, xsz_new, xsl_new, t1, xcls, xnm, xcn]; done) | (simp [xE_setI, xsz_setI, xsl_setI, xtag_setI, xown_setI, xlen_setI, xE_setR, xsz_setR, xsl_setR, xtag_setR, xown_setR, xlen_setR, xE_setW, xsz_setW, xsl_setW, xtag_setW, xown_setW, xlen_setW, xi_setR, xi_setW, xr_setI, xr_setW, xww_setI, xww_setR, xi_setI, xr_setR, xww_setW, xE_new, xsz_new, xsl_new, t1]; rfl)) (by first | rfl | (simp [xE_setI, xsz_setI, xsl_setI, xtag_setI, xown_setI, xlen_setI, xE_setR, xsz_setR, xsl_setR, xtag_setR, xown_setR, xlen_setR, xE_setW, xsz_setW, xsl_setW, xtag_setW, xown_setW, xlen_setW, xi_setR, xi_setW, xr_setI, xr_setW, xww_setI, xww_setR, xi_setI, xr_setR, xww_setW, xE_new, xsz_new, xsl_new, t1, xcls, xnm, xcn]; done) | (simp [xE_setI, xsz_setI, xsl_setI, xtag_setI, xown_setI, xlen_setI, xE_setR, xsz_setR, xsl_setR, xtag_setR, xown_setR, xlen_setR, xE_setW, xsz_setW, xsl_setW, xtag_setW, xown_setW, xlen_setW, xi_setR, xi_setW, xr_setI, xr_setW, xww_setI, xww_setR, xi_setI, xr_setR, xww_setW, xE_new, xsz_new, xsl_new, t1]; rfl)) dJ18_removeFirst_1 rfl rfl (Nat.le_of_ble_eq_true rfl)) (SP_J18_pollFirst hD ho) ?_
  intro g1 hc1 hm1
  refine xw_astore_n (l' := [(1, _), (0, _)]) (pc := 4) dJ18_removeFirst_4 rfl (by decide) rfl ?_
  refine xw_aload_n (pc := 5) dJ18_removeFirst_5 0 rfl ?_
  refine xw_ifnonnull (pc := 6) 17 dJ18_removeFirst_6 rfl ?_
  refine xw_aload_n (pc := 17) dJ18_removeFirst_17 0 rfl ?_
  refine xw_aret (pc := 18) (.object "java/lang/Object") dJ18_removeFirst_18 rfl ?_
  exact ⟨rfl, hc1⟩

theorem SP_J18_pollLast {d : Nat} {g : xG} {o a arr h b : Nat} {ls : List Nat} (hD : xAD g o a arr h (ls ++ [b])) (ho : o ≠ 0) : XM M_J18_pollLast (d + 1) [.ref a] g (xVal (.ref b) (fun g' => xAD g' o a arr h ls ∧ xFr (oEq o) 0 g g')) := by
  have hD0 := hD
  obtain ⟨t1, t2, t3, t4, t5, t6, t7, t8, t9, t10, t11⟩ := hD
  have hna : xown g a ≠ 0 := by rw [t2]; exact ho
  have hnr : xown g arr ≠ 0 := by rw [t7]; exact ho
  have hne : a ≠ arr := fun q => by rw [q, t6] at t1; cases t1
  have hne2 : arr ≠ a := fun q => hne q.symm
  have ha : a < xsz g := xlt (by rw [t1]; decide)
  have hr : arr < xsz g := xlt (by rw [t6]; decide)
  have nta : xtag g a ≠ 0 := by rw [t1]; decide
  have ntr : xtag g arr ≠ 0 := by rw [t6]; decide
  rw [List.length_append, List.length_singleton] at t5 t10
  have e16 : ((h + (ls.length + 1)) % 17 + 16) % 17 = (h + ls.length) % 17 := by omega
  have e9 : xr g arr (((h + (ls.length + 1)) % 17 + 16) % 17) = some b := by
    have e := t11 ls.length (by simp)
    rw [e16, e]
    simp
  refine xm_of (by decide +kernel) (Nat.le_of_ble_eq_true rfl) ?_
  show XW _ _ 0 [(0, _)] [] _ _
  refine xw_aload_n (pc := 0) dJ18_pollLast_0 0 rfl ?_
  refine xw_getS (b := arr) (pc := 1) fd_J18_3 dJ18_pollLast_1 (by first | assumption | (simp [xE_setI, xsz_setI, xsl_setI, xtag_setI, xown_setI, xlen_setI, xE_setR, xsz_setR, xsl_setR, xtag_setR, xown_setR, xlen_setR, xE_setW, xsz_setW, xsl_setW, xtag_setW, xown_setW, xlen_setW, xi_setR, xi_setW, xr_setI, xr_setW, xww_setI, xww_setR, xi_setI, xr_setR, xww_setW, xE_new, xsz_new, xsl_new, t1, t3, t4, t5, t6, t8, hna, hnr, nta, ntr, hne, hne2, xsub]; done) | (simp [xE_setI, xsz_setI, xsl_setI, xtag_setI, xown_setI, xlen_setI, xE_setR, xsz_setR, xsl_setR, xtag_setR, xown_setR, xlen_setR, xE_setW, xsz_setW, xsl_setW, xtag_setW, xown_setW, xlen_setW, xi_setR, xi_setW, xr_setI, xr_setW, xww_setI, xww_setR, xi_setI, xr_setR, xww_setW, xE_new, xsz_new, xsl_new, t1, t3, t4, t5, t6, t8, hna, hnr, nta, ntr, hne, hne2] <;> rfl)) (by simp [xE_setI, xsz_setI, xsl_setI, xtag_setI, xown_setI, xlen_setI, xE_setR, xsz_setR, xsl_setR, xtag_setR, xown_setR, xlen_setR, xE_setW, xsz_setW, xsl_setW, xtag_setW, xown_setW, xlen_setW, xi_setR, xi_setW, xr_setI, xr_setW, xww_setI, xww_setR, xi_setI, xr_setR, xww_setW, xE_new, xsz_new, xsl_new, t1, t3, t4, t5, t6, t8, hna, hnr, nta, ntr, hne, hne2]) ?_
  refine xw_dup (pc := 4) dJ18_pollLast_4 rfl ?_
  refine xw_astore_n (l' := [(1, _), (0, _)]) (pc := 5) dJ18_pollLast_5 rfl (by decide) rfl ?_
  refine xw_aload_n (pc := 6) dJ18_pollLast_6 1 rfl ?_
  refine xw_getNat (k := ((h + (ls.length + 1)) % 17)) (pc := 7) fd_J18_20 dJ18_pollLast_7 (by first | assumption | (simp [xE_setI, xsz_setI, xsl_setI, xtag_setI, xown_setI, xlen_setI, xE_setR, xsz_setR, xsl_setR, xtag_setR, xown_setR, xlen_setR, xE_setW, xsz_setW, xsl_setW, xtag_setW, xown_setW, xlen_setW, xi_setR, xi_setW, xr_setI, xr_setW, xww_setI, xww_setR, xi_setI, xr_setR, xww_setW, xE_new, xsz_new, xsl_new, t1, t3, t4, t5, t6, t8, hna, hnr, nta, ntr, hne, hne2, xsub]; done) | (simp [xE_setI, xsz_setI, xsl_setI, xtag_setI, xown_setI, xlen_setI, xE_setR, xsz_setR, xsl_setR, xtag_setR, xown_setR, xlen_setR, xE_setW, xsz_setW, xsl_setW, xtag_setW, xown_setW, xlen_setW, xi_setR, xi_setW, xr_setI, xr_setW, xww_setI, xww_setR, xi_setI, xr_setR, xww_setW, xE_new, xsz_new, xsl_new, t1, t3, t4, t5, t6, t8, hna, hnr, nta, ntr, hne, hne2] <;> rfl)) (by simp [xE_setI, xsz_setI, xsl_setI, xtag_setI, xown_setI, xlen_setI, xE_setR, xsz_setR, xsl_setR, xtag_setR, xown_setR, xlen_setR, xE_setW, xsz_setW, xsl_setW, xtag_setW, xown_setW, xlen_setW, xi_setR, xi_setW, xr_setI, xr_setW, xww_setI, xww_setR, xi_setI, xr_setR, xww_setW, xE_new, xsz_new, xsl_new, t1, t3, t4, t5, t6, t8, hna, hnr, nta, ntr, hne, hne2]) ?_
  refine xw_aload_n (pc := 10) dJ18_pollLast_10 0 rfl ?_
  refine xw_alen (q := 7) (pc := 11) dJ18_pollLast_11 (by simp [xE_setI, xsz_setI, xsl_setI, xtag_setI, xown_setI, xlen_setI, xE_setR, xsz_setR, xsl_setR, xtag_setR, xown_setR, xlen_setR, xE_setW, xsz_setW, xsl_setW, xtag_setW, xown_setW, xlen_setW, xi_setR, xi_setW, xr_setI, xr_setW, xww_setI, xww_setR, xi_setI, xr_setR, xww_setW, xE_new, xsz_new, xsl_new, t1, t3, t4, t5, t6, t8, hna, hnr, nta, ntr, hne, hne2]) (by decide) ?_
  rw [show xlen _ arr = 17 from by simp [xE_setI, xsz_setI, xsl_setI, xtag_setI, xown_setI, xlen_setI, xE_setR, xsz_setR, xsl_setR, xtag_setR, xown_setR, xlen_setR, xE_setW, xsz_setW, xsl_setW, xtag_setW, xown_setW, xlen_setW, xi_setR, xi_setW, xr_setI, xr_setW, xww_setI, xww_setR, xi_setI, xr_setR, xww_setW, xE_new, xsz_new, xsl_new, t1, t3, t4, t5, t6, t8, hna, hnr, nta, ntr, hne, hne2]]
  refine xw_callV (pc := 12) (xr_S (as := [_, _]) ok_J18_dec rfl (by decide) q2224 q2225 dJ18_pollLast_12 rfl rfl (Nat.le_of_ble_eq_true rfl)) (SP_J18_dec (by omega)) ?_
  refine xw_dup (pc := 15) dJ18_pollLast_15 rfl ?_
  refine xw_istore_n (l' := [(2, _), (1, _), (0, _)]) (pc := 16) dJ18_pollLast_16 rfl (by decide) rfl ?_
  refine xw_callV (pc := 17) (xr_S (as := [_, _]) ok_J18_elementAt rfl (by decide) q1154 q1155 dJ18_pollLast_17 rfl rfl (Nat.le_of_ble_eq_true rfl)) (SP_J18_elementAt t6 (by rw [t8]; omega) (by omega) e9) ?_
  refine xw_astore_n (l' := [(3, _), (2, _), (1, _), (0, _)]) (pc := 20) dJ18_pollLast_20 rfl (by decide) rfl ?_
  refine xw_aload_n (pc := 21) dJ18_pollLast_21 0 rfl ?_
  refine xw_ifnull (pc := 22) dJ18_pollLast_22 ?_
  refine xw_aload_n (pc := 25) dJ18_pollLast_25 2 rfl ?_
  refine xw_aload_n (pc := 26) dJ18_pollLast_26 3 rfl ?_
  refine xw_iload_n (pc := 27) dJ18_pollLast_27 1 rfl ?_
  refine xw_dup_x1 (pc := 28) dJ18_pollLast_28 rfl rfl ?_
  refine xw_putI (pc := 29) fd_J18_20 (xfin_of (by decide) (by decide +kernel)) dJ18_pollLast_29 (by first | assumption | (simp [xE_setI, xsz_setI, xsl_setI, xtag_setI, xown_setI, xlen_setI, xE_setR, xsz_setR, xsl_setR, xtag_setR, xown_setR, xlen_setR, xE_setW, xsz_setW, xsl_setW, xtag_setW, xown_setW, xlen_setW, xi_setR, xi_setW, xr_setI, xr_setW, xww_setI, xww_setR, xi_setI, xr_setR, xww_setW, xE_new, xsz_new, xsl_new, t1, t3, t4, t5, t6, t8, hna, hnr, nta, ntr, hne, hne2, xsub]; done) | (simp [xE_setI, xsz_setI, xsl_setI, xtag_setI, xown_setI, xlen_setI, xE_setR, xsz_setR, xsl_setR, xtag_setR, xown_setR, xlen_setR, xE_setW, xsz_setW, xsl_setW, xtag_setW, xown_setW, xlen_setW, xi_setR, xi_setW, xr_setI, xr_setW, xww_setI, xww_setR, xi_setI, xr_setR, xww_setW, xE_new, xsz_new, xsl_new, t1, t3, t4, t5, t6, t8, hna, hnr, nta, ntr, hne, hne2] <;> rfl)) (by first | assumption | (simp [xE_setI, xsz_setI, xsl_setI, xtag_setI, xown_setI, xlen_setI, xE_setR, xsz_setR, xsl_setR, xtag_setR, xown_setR, xlen_setR, xE_setW, xsz_setW, xsl_setW, xtag_setW, xown_setW, xlen_setW, xi_setR, xi_setW, xr_setI, xr_setW, xww_setI, xww_setR, xi_setI, xr_setR, xww_setW, xE_new, xsz_new, xsl_new, t1, t3, t4, t5, t6, t8, hna, hnr, nta, ntr, hne, hne2]; done) | (simp [xE_setI, xsz_setI, xsl_setI, xtag_setI, xown_setI, xlen_setI, xE_setR, xsz_setR, xsl_setR, xtag_setR, xown_setR, xlen_setR, xE_setW, xsz_setW, xsl_setW, xtag_setW, xown_setW, xlen_setW, xi_setR, xi_setW, xr_setI, xr_setW, xww_setI, xww_setR, xi_setI, xr_setR, xww_setW, xE_new, xsz_new, xsl_new, t1, t3, t4, t5, t6, t8, hna, hnr, nta, ntr, hne, hne2]; assumption)) ?_
  refine xw_null (pc := 32) dJ18_pollLast_32 ?_
  refine xw_aastN (q := 7) (k := (((h + (ls.length + 1)) % 17 + 16) % 17)) (pc := 33) dJ18_pollLast_33 (by simp [xE_setI, xsz_setI, xsl_setI, xtag_setI, xown_setI, xlen_setI, xE_setR, xsz_setR, xsl_setR, xtag_setR, xown_setR, xlen_setR, xE_setW, xsz_setW, xsl_setW, xtag_setW, xown_setW, xlen_setW, xi_setR, xi_setW, xr_setI, xr_setW, xww_setI, xww_setR, xi_setI, xr_setR, xww_setW, xE_new, xsz_new, xsl_new, t1, t3, t4, t5, t6, t8, hna, hnr, nta, ntr, hne, hne2]) (by decide) (by decide) rfl (by first | assumption | (simp [xE_setI, xsz_setI, xsl_setI, xtag_setI, xown_setI, xlen_setI, xE_setR, xsz_setR, xsl_setR, xtag_setR, xown_setR, xlen_setR, xE_setW, xsz_setW, xsl_setW, xtag_setW, xown_setW, xlen_setW, xi_setR, xi_setW, xr_setI, xr_setW, xww_setI, xww_setR, xi_setI, xr_setR, xww_setW, xE_new, xsz_new, xsl_new, t1, t3, t4, t5, t6, t8, hna, hnr, nta, ntr, hne, hne2]; done) | (simp [xE_setI, xsz_setI, xsl_setI, xtag_setI, xown_setI, xlen_setI, xE_setR, xsz_setR, xsl_setR, xtag_setR, xown_setR, xlen_setR, xE_setW, xsz_setW, xsl_setW, xtag_setW, xown_setW, xlen_setW, xi_setR, xi_setW, xr_setI, xr_setW, xww_setI, xww_setR, xi_setI, xr_setR, xww_setW, xE_new, xsz_new, xsl_new, t1, t3, t4, t5, t6, t8, hna, hnr, nta, ntr, hne, hne2]; assumption)) rfl (by (first | omega | (rw [xlen_setI, t8]; omega))) ?_
  refine xw_aload_n (pc := 34) dJ18_pollLast_34 0 rfl ?_
  refine xw_aret (pc := 35) (.object "java/lang/Object") dJ18_pollLast_35 rfl ?_
  refine ⟨rfl, ⟨?_, ?_, ?_, ?_, ?_, ?_, ?_, ?_, by omega, by omega, fun i hi => ?_⟩, (xFr.rf.si (Or.inr t2)).sr (Or.inr (by rw [xown_setI]; exact t7))⟩
  · rw [xtag_setR, xtag_setI]; exact t1
  · rw [xown_setR, xown_setI]; exact t2
  · rw [xr_setRN hne, xr_setI]; exact t3
  · rw [xi_setR, xi_setIK (by decide)]; exact t4
  · rw [xi_setR, xi_setIS nta, e16]
  · rw [xtag_setR, xtag_setI]; exact t6
  · rw [xown_setR, xown_setI]; exact t7
  · rw [xlen_setR, xlen_setI]; exact t8
  · have e := t11 i (by rw [List.length_append, List.length_singleton]; omega)
    rw [xr_setRK (by omega), xr_setI, e, List.getD_eq_getElem?_getD, List.getD_eq_getElem?_getD, List.getElem?_append_left (by omega)]

theorem SP_J18_removeLast {d : Nat} {g : xG} {o a arr h b : Nat} {ls : List Nat} (hD : xAD g o a arr h (ls ++ [b])) (ho : o ≠ 0) : XM M_J18_removeLast (d + 2) [.ref a] g (xVal (.ref b) (fun g' => xAD g' o a arr h ls ∧ xFr (oEq o) 0 g g')) := by
  have t1 := hD.1
  refine xm_of (by decide +kernel) (Nat.le_of_ble_eq_true rfl) ?_
  show XW _ _ 0 [(0, _)] [] _ _
  refine xw_aload_n (pc := 0) dJ18_removeLast_0 0 rfl ?_
  refine xw_callF (pc := 1) (xr_V (as := []) ok_J18_pollLast rfl (by decide) q2220 q2221 q2222 (by first | rfl | (simp [xE_setI, xsz_setI, xsl_setI, xtag_setI, xown_setI, xlen_setI, xE_setR, xsz_setR, xsl_setR, xtag_setR, xown_setR, xlen_setR, xE_setW, xsz_setW, xsl_setW, xtag_setW, xown_setW, xlen_setW, xi_setR, xi_setW, xr_setI, xr_setW, xww_setI, xww_setR, xi_setI, xr_setR, xww_setW, xE_new, xsz_new, xsl_new, t1, xcls, xnm, xcn]; done) | (simp [xE_setI, xsz_setI, xsl_setI, xtag_setI, xown_setI, xlen_setI, xE_setR, xsz_setR, xsl_setR, xtag_setR, xown_setR, xlen_setR, xE_setW, xsz_setW, xsl_setW, xtag_setW, xown_setW, xlen_setW, xi_setR, xi_setW, xr_setI, xr_setW, xww_setI, xww_setR, xi_setI, xr_setR, xww_setW, xE_new, xsz_new, xsl_new, t1]; rfl)) (by first | rfl | (simp [xE_setI, xsz_setI, xsl_setI, xtag_setI, xown_setI, xlen_setI, xE_setR, xsz_setR, xsl_setR, xtag_setR, xown_setR, xlen_setR, xE_setW, xsz_setW, xsl_setW, xtag_setW, xown_setW, xlen_setW, xi_setR, xi_setW, xr_setI, xr_setW, xww_setI, xww_setR, xi_setI, xr_setR, xww_setW, xE_new, xsz_new, xsl_new, t1, xcls, xnm, xcn]; done) | (simp [xE_setI, xsz_setI, xsl_setI, xtag_setI, xown_setI, xlen_setI, xE_setR, xsz_setR, xsl_setR, xtag_setR, xown_setR, xlen_setR, xE_setW, xsz_setW, xsl_setW, xtag_setW, xown_setW, xlen_setW, xi_setR, xi_setW, xr_setI, xr_setW, xww_setI, xww_setR, xi_setI, xr_setR, xww_setW, xE_new, xsz_new, xsl_new, t1]; rfl)) dJ18_removeLast_1 rfl rfl (Nat.le_of_ble_eq_true rfl)) (SP_J18_pollLast hD ho) ?_
  intro g1 hc1 hm1
  refine xw_astore_n (l' := [(1, _), (0, _)]) (pc := 4) dJ18_removeLast_4 rfl (by decide) rfl ?_
  refine xw_aload_n (pc := 5) dJ18_removeLast_5 0 rfl ?_
  refine xw_ifnonnull (pc := 6) 17 dJ18_removeLast_6 rfl ?_
  refine xw_aload_n (pc := 17) dJ18_removeLast_17 0 rfl ?_
  refine xw_aret (pc := 18) (.object "java/lang/Object") dJ18_removeLast_18 rfl ?_
  exact ⟨rfl, hc1⟩

/-- the array arr with other references -/
def xRf (g : xG) (arr : Nat) (f : Nat → Option Nat) : xG := xPut g arr (xcR (xc g arr) f)
theorem xRf_0 {g : xG} {arr : Nat} (h : arr < xsz g) : xEqv g (xRf g arr (xr g arr)) := by
  refine ⟨rfl, rfl, rfl, fun b => ?_⟩
  by_cases e : b = arr
  · subst e
    unfold xRf
    rw [xc_put h]
    rfl
  · unfold xRf
    rw [xc_putN e]
theorem xRf_S {g : xG} {arr k : Nat} {f : Nat → Option Nat} {v : Option Nat} (h : arr < xsz g) : xsetR (xRf g arr f) arr k v = xRf g arr (xup f k v) := by
  unfold xsetR
  have e : xc (xRf g arr f) arr = xcR (xc g arr) f := xc_put h
  rw [e]
  unfold xRf xPut
  refine congrArg (fun z => (g.1, g.2.1, g.2.2.1, z)) (funext fun b => ?_)
  by_cases e2 : b = arr
  · rw [if_pos e2, if_pos e2]
    rfl
  · rw [if_neg e2, if_neg e2]
    exact if_neg e2
theorem lp1_J18_cc {d : Nat} {g : xG} {arr e : Nat} (ht : xtag g arr = 108) (ho : xown g arr ≠ 0) (hl : xlen g arr = 17) (he : e < 17) {Q : Option Value ⊕ Nat → xG → Prop} (hq : ∀ f, Q (.inl none) (xRf g arr f)) : ∀ (j i : Nat) (f : Nat → Option Nat), e - i < j → i ≤ e → XW M_J18_circularClear d 12 [(3, .int (nI e)), (0, .ref arr), (1, .int (nI i)), (2, .int (nI e))] [] (xRf g arr f) Q := by
  intro j
  induction j with
  | zero => intro i f h; omega
  | succ j ih =>
    intro i f hij hie
    have hlt : arr < xsz g := xlt (by rw [ht]; decide)
    have u1 : xtag (xRf g arr f) arr = 108 := by unfold xRf; rw [xtag_pR]; exact ht
    have u2 : xown (xRf g arr f) arr ≠ 0 := by unfold xRf; rw [xown_pR]; exact ho
    have u3 : xlen (xRf g arr f) arr = 17 := by unfold xRf; rw [xlen_pR]; exact hl
    refine xw_iload_n (pc := 12) dJ18_circularClear_12 2 rfl ?_
    refine xw_iload_n (pc := 13) dJ18_circularClear_13 0 rfl ?_
    refine xw_icmp_ge (pc := 14) 27 dJ18_circularClear_14 rfl (fun hb14 => ?_) (fun hb14 => ?_)
    · replace hb14 : e ≤ i := (nI_leI (a := e) (b := i) (by omega) (by omega)).mp hb14
      refine xw_iload_n (pc := 27) dJ18_circularClear_27 0 rfl ?_
      refine xw_iload_n (pc := 28) dJ18_circularClear_28 3 rfl ?_
      refine xw_icmp_ne (pc := 29) 35 dJ18_circularClear_29 rfl (fun hb29 => ?_) (fun hb29 => ?_)
      · exfalso
        replace hb29 : ¬ (e = e) := mt (nI_eq (a := e) (b := e) (by omega) (by omega)).mpr hb29
        omega
      replace hb29 : e = e := (nI_eq (a := e) (b := e) (by omega) (by omega)).mp hb29
      refine xw_goto (pc := 32) 42 dJ18_circularClear_32 rfl ?_
      refine xw_vret (pc := 42) dJ18_circularClear_42 rfl ?_
      exact hq _
    · replace hb14 : ¬ (e ≤ i) := mt (nI_leI (a := e) (b := i) (by omega) (by omega)).mpr hb14
      refine xw_aload_n (pc := 17) dJ18_circularClear_17 1 rfl ?_
      refine xw_iload_n (pc := 18) dJ18_circularClear_18 2 rfl ?_
      refine xw_null (pc := 19) dJ18_circularClear_19 ?_
      refine xw_aastN (q := 7) (k := i) (pc := 20) dJ18_circularClear_20 (by simp [xE_setI, xsz_setI, xsl_setI, xtag_setI, xown_setI, xlen_setI, xE_setR, xsz_setR, xsl_setR, xtag_setR, xown_setR, xlen_setR, xE_setW, xsz_setW, xsl_setW, xtag_setW, xown_setW, xlen_setW, xi_setR, xi_setW, xr_setI, xr_setW, xww_setI, xww_setR, xi_setI, xr_setR, xww_setW, xE_new, xsz_new, xsl_new, u1, u2, u3]) (by decide) (by decide) rfl (by first | assumption | (simp [xE_setI, xsz_setI, xsl_setI, xtag_setI, xown_setI, xlen_setI, xE_setR, xsz_setR, xsl_setR, xtag_setR, xown_setR, xlen_setR, xE_setW, xsz_setW, xsl_setW, xtag_setW, xown_setW, xlen_setW, xi_setR, xi_setW, xr_setI, xr_setW, xww_setI, xww_setR, xi_setI, xr_setR, xww_setW, xE_new, xsz_new, xsl_new, u1, u2, u3]; done) | (simp [xE_setI, xsz_setI, xsl_setI, xtag_setI, xown_setI, xlen_setI, xE_setR, xsz_setR, xsl_setR, xtag_setR, xown_setR, xlen_setR, xE_setW, xsz_setW, xsl_setW, xtag_setW, xown_setW, xlen_setW, xi_setR, xi_setW, xr_setI, xr_setW, xww_setI, xww_setR, xi_setI, xr_setR, xww_setW, xE_new, xsz_new, xsl_new, u1, u2, u3]; assumption)) rfl (by rw [u3]; omega) ?_
      refine xw_iinc (v := nI (i + 1)) (l' := [(1, _), (3, _), (0, _), (2, _)]) (pc := 21) dJ18_circularClear_21 2 rfl (nI_add _ 1) (by decide) rfl ?_
      refine xw_goto (pc := 24) 12 dJ18_circularClear_24 rfl ?_
      refine xw_pick (pc := 12) (l' := [(3, _), (0, _), (1, _), (2, _)]) [1, 2, 0, 3] rfl ?_
      rw [xRf_S hlt]
      exact ih (i + 1) _ (by omega) (by omega)
theorem lp2_J18_cc {d : Nat} {g : xG} {arr e : Nat} (ht : xtag g arr = 108) (ho : xown g arr ≠ 0) (hl : xlen g arr = 17) (he : e < 17) {Q : Option Value ⊕ Nat → xG → Prop} (hq : ∀ f, Q (.inl none) (xRf g arr f)) : ∀ (j i : Nat) (f : Nat → Option Nat), 17 - i < j → i ≤ 17 → XW M_J18_circularClear d 12 [(3, .int (nI 17)), (0, .ref arr), (1, .int (nI i)), (2, .int (nI e))] [] (xRf g arr f) Q := by
  intro j
  induction j with
  | zero => intro i f h; omega
  | succ j ih =>
    intro i f hij hie
    have hlt : arr < xsz g := xlt (by rw [ht]; decide)
    have u1 : xtag (xRf g arr f) arr = 108 := by unfold xRf; rw [xtag_pR]; exact ht
    have u2 : xown (xRf g arr f) arr ≠ 0 := by unfold xRf; rw [xown_pR]; exact ho
    have u3 : xlen (xRf g arr f) arr = 17 := by unfold xRf; rw [xlen_pR]; exact hl
    refine xw_iload_n (pc := 12) dJ18_circularClear_12 2 rfl ?_
    refine xw_iload_n (pc := 13) dJ18_circularClear_13 0 rfl ?_
    refine xw_icmp_ge (pc := 14) 27 dJ18_circularClear_14 rfl (fun hb14 => ?_) (fun hb14 => ?_)
    · replace hb14 : 17 ≤ i := (nI_leI (a := 17) (b := i) (by omega) (by omega)).mp hb14
      refine xw_iload_n (pc := 27) dJ18_circularClear_27 0 rfl ?_
      refine xw_iload_n (pc := 28) dJ18_circularClear_28 3 rfl ?_
      refine xw_icmp_ne (pc := 29) 35 dJ18_circularClear_29 rfl (fun hb29 => ?_) (fun hb29 => ?_)
      rotate_left
      · exfalso
        replace hb29 : 17 = e := (nI_eq (a := 17) (b := e) (by omega) (by omega)).mp hb29
        omega
      replace hb29 : ¬ (17 = e) := mt (nI_eq (a := 17) (b := e) (by omega) (by omega)).mpr hb29
      refine xw_iconst (v := nI 0) (pc := 35) dJ18_circularClear_35 rfl ?_
      refine xw_istore_n (l' := [(1, _), (3, _), (0, _), (2, _)]) (pc := 36) dJ18_circularClear_36 rfl (by decide) rfl ?_
      refine xw_iload_n (pc := 37) dJ18_circularClear_37 3 rfl ?_
      refine xw_istore_n (l' := [(3, _), (1, _), (0, _), (2, _)]) (pc := 38) dJ18_circularClear_38 rfl (by decide) rfl ?_
      refine xw_goto (pc := 39) 12 dJ18_circularClear_39 rfl ?_
      refine xw_pick (pc := 12) (l' := [(3, _), (0, _), (1, _), (2, _)]) [0, 2, 1, 3] rfl ?_
      first
      | (rw [xRf_S hlt]; exact ih (i + 1) _ (by omega) (by omega))
      | exact lp1_J18_cc ht ho hl he hq 18 0 _ (by omega) (by omega)
    · replace hb14 : ¬ (17 ≤ i) := mt (nI_leI (a := 17) (b := i) (by omega) (by omega)).mpr hb14
      refine xw_aload_n (pc := 17) dJ18_circularClear_17 1 rfl ?_
      refine xw_iload_n (pc := 18) dJ18_circularClear_18 2 rfl ?_
      refine xw_null (pc := 19) dJ18_circularClear_19 ?_
      refine xw_aastN (q := 7) (k := i) (pc := 20) dJ18_circularClear_20 (by simp [xE_setI, xsz_setI, xsl_setI, xtag_setI, xown_setI, xlen_setI, xE_setR, xsz_setR, xsl_setR, xtag_setR, xown_setR, xlen_setR, xE_setW, xsz_setW, xsl_setW, xtag_setW, xown_setW, xlen_setW, xi_setR, xi_setW, xr_setI, xr_setW, xww_setI, xww_setR, xi_setI, xr_setR, xww_setW, xE_new, xsz_new, xsl_new, u1, u2, u3]) (by decide) (by decide) rfl (by first | assumption | (simp [xE_setI, xsz_setI, xsl_setI, xtag_setI, xown_setI, xlen_setI, xE_setR, xsz_setR, xsl_setR, xtag_setR, xown_setR, xlen_setR, xE_setW, xsz_setW, xsl_setW, xtag_setW, xown_setW, xlen_setW, xi_setR, xi_setW, xr_setI, xr_setW, xww_setI, xww_setR, xi_setI, xr_setR, xww_setW, xE_new, xsz_new, xsl_new, u1, u2, u3]; done) | (simp [xE_setI, xsz_setI, xsl_setI, xtag_setI, xown_setI, xlen_setI, xE_setR, xsz_setR, xsl_setR, xtag_setR, xown_setR, xlen_setR, xE_setW, xsz_setW, xsl_setW, xtag_setW, xown_setW, xlen_setW, xi_setR, xi_setW, xr_setI, xr_setW, xww_setI, xww_setR, xi_setI, xr_setR, xww_setW, xE_new, xsz_new, xsl_new, u1, u2, u3]; assumption)) rfl (by rw [u3]; omega) ?_
      refine xw_iinc (v := nI (i + 1)) (l' := [(1, _), (3, _), (0, _), (2, _)]) (pc := 21) dJ18_circularClear_21 2 rfl (nI_add _ 1) (by decide) rfl ?_
      refine xw_goto (pc := 24) 12 dJ18_circularClear_24 rfl ?_
      refine xw_pick (pc := 12) (l' := [(3, _), (0, _), (1, _), (2, _)]) [1, 2, 0, 3] rfl ?_
      first
      | (rw [xRf_S hlt]; exact ih (i + 1) _ (by omega) (by omega))
      | exact lp1_J18_cc ht ho hl he hq 18 0 _ (by omega) (by omega)
theorem SP_J18_circularClear {d : Nat} {g : xG} {arr i e : Nat} (ht : xtag g arr = 108) (ho : xown g arr ≠ 0) (hl : xlen g arr = 17) (he : e < 17) (hi : i < 17) : XM M_J18_circularClear d [.ref arr, .int (nI i), .int (nI e)] g (xVoid (fun g' => ∃ f, g' = xRf g arr f)) := by
  have hlt : arr < xsz g := xlt (by rw [ht]; decide)
  refine xm_of (by decide +kernel) (Nat.le_of_ble_eq_true rfl) ?_
  show XW _ _ 0 [(0, _), (1, _), (2, _)] [] _ _
  refine xw_iload_n (pc := 0) dJ18_circularClear_0 1 rfl ?_
  refine xw_iload_n (pc := 1) dJ18_circularClear_1 2 rfl ?_
  refine xw_icmp_gt (pc := 2) 9 dJ18_circularClear_2 rfl (fun hb2 => ?_) (fun hb2 => ?_)
  · replace hb2 : e < i := (nI_ltI (a := e) (b := i) (by omega) (by omega)).mp hb2
    refine xw_aload_n (pc := 9) dJ18_circularClear_9 0 rfl ?_
    refine xw_alen (q := 7) (pc := 10) dJ18_circularClear_10 (by simp [xE_setI, xsz_setI, xsl_setI, xtag_setI, xown_setI, xlen_setI, xE_setR, xsz_setR, xsl_setR, xtag_setR, xown_setR, xlen_setR, xE_setW, xsz_setW, xsl_setW, xtag_setW, xown_setW, xlen_setW, xi_setR, xi_setW, xr_setI, xr_setW, xww_setI, xww_setR, xi_setI, xr_setR, xww_setW, xE_new, xsz_new, xsl_new, ht, hl]) (by decide) ?_
    rw [show xlen _ arr = 17 from by simp [xE_setI, xsz_setI, xsl_setI, xtag_setI, xown_setI, xlen_setI, xE_setR, xsz_setR, xsl_setR, xtag_setR, xown_setR, xlen_setR, xE_setW, xsz_setW, xsl_setW, xtag_setW, xown_setW, xlen_setW, xi_setR, xi_setW, xr_setI, xr_setW, xww_setI, xww_setR, xi_setI, xr_setR, xww_setW, xE_new, xsz_new, xsl_new, ht, hl]]
    refine xw_istore_n (l' := [(3, _), (0, _), (1, _), (2, _)]) (pc := 11) dJ18_circularClear_11 rfl (by decide) rfl ?_
    first
    | exact XW.eqv (xRf_0 hlt) (lp1_J18_cc ht ho hl he (fun f => ⟨rfl, f, rfl⟩) 18 i _ (by omega) (by omega))
    | exact XW.eqv (xRf_0 hlt) (lp2_J18_cc ht ho hl he (fun f => ⟨rfl, f, rfl⟩) 18 i _ (by omega) (by omega))
  · replace hb2 : ¬ (e < i) := mt (nI_ltI (a := e) (b := i) (by omega) (by omega)).mpr hb2
    refine xw_iload_n (pc := 5) dJ18_circularClear_5 2 rfl ?_
    refine xw_goto (pc := 6) 11 dJ18_circularClear_6 rfl ?_
    refine xw_istore_n (l' := [(3, _), (0, _), (1, _), (2, _)]) (pc := 11) dJ18_circularClear_11 rfl (by decide) rfl ?_
    first
    | exact XW.eqv (xRf_0 hlt) (lp1_J18_cc ht ho hl he (fun f => ⟨rfl, f, rfl⟩) 18 i _ (by omega) (by omega))
    | exact XW.eqv (xRf_0 hlt) (lp2_J18_cc ht ho hl he (fun f => ⟨rfl, f, rfl⟩) 18 i _ (by omega) (by omega))

theorem SP_J18_clear {d : Nat} {g : xG} {o a arr h : Nat} {ls : List Nat} (hD : xAD g o a arr h ls) (ho : o ≠ 0) : XM M_J18_clear (d + 1) [.ref a] g (xVoid (fun g' => xAD g' o a arr 0 [] ∧ xFr (oEq o) 0 g g')) := by
  have hD0 := hD
  obtain ⟨t1, t2, t3, t4, t5, t6, t7, t8, t9, t10, t11⟩ := hD
  have hna : xown g a ≠ 0 := by rw [t2]; exact ho
  have hnr : xown g arr ≠ 0 := by rw [t7]; exact ho
  have hne : a ≠ arr := fun q => by rw [q, t6] at t1; cases t1
  have hne2 : arr ≠ a := fun q => hne q.symm
  have ha : a < xsz g := xlt (by rw [t1]; decide)
  have hr : arr < xsz g := xlt (by rw [t6]; decide)
  have nta : xtag g a ≠ 0 := by rw [t1]; decide
  have ntr : xtag g arr ≠ 0 := by rw [t6]; decide
  refine xm_of (by decide +kernel) (Nat.le_of_ble_eq_true rfl) ?_
  show XW _ _ 0 [(0, _)] [] _ _
  refine xw_aload_n (pc := 0) dJ18_clear_0 0 rfl ?_
  refine xw_getS (b := arr) (pc := 1) fd_J18_3 dJ18_clear_1 (by first | assumption | (simp [xE_setI, xsz_setI, xsl_setI, xtag_setI, xown_setI, xlen_setI, xE_setR, xsz_setR, xsl_setR, xtag_setR, xown_setR, xlen_setR, xE_setW, xsz_setW, xsl_setW, xtag_setW, xown_setW, xlen_setW, xi_setR, xi_setW, xr_setI, xr_setW, xww_setI, xww_setR, xi_setI, xr_setR, xww_setW, xE_new, xsz_new, xsl_new, t1, t3, t4, t5, xsub]; done) | (simp [xE_setI, xsz_setI, xsl_setI, xtag_setI, xown_setI, xlen_setI, xE_setR, xsz_setR, xsl_setR, xtag_setR, xown_setR, xlen_setR, xE_setW, xsz_setW, xsl_setW, xtag_setW, xown_setW, xlen_setW, xi_setR, xi_setW, xr_setI, xr_setW, xww_setI, xww_setR, xi_setI, xr_setR, xww_setW, xE_new, xsz_new, xsl_new, t1, t3, t4, t5] <;> rfl)) (by simp [xE_setI, xsz_setI, xsl_setI, xtag_setI, xown_setI, xlen_setI, xE_setR, xsz_setR, xsl_setR, xtag_setR, xown_setR, xlen_setR, xE_setW, xsz_setW, xsl_setW, xtag_setW, xown_setW, xlen_setW, xi_setR, xi_setW, xr_setI, xr_setW, xww_setI, xww_setR, xi_setI, xr_setR, xww_setW, xE_new, xsz_new, xsl_new, t1, t3, t4, t5]) ?_
  refine xw_aload_n (pc := 4) dJ18_clear_4 0 rfl ?_
  refine xw_getNat (k := h) (pc := 5) fd_J18_24 dJ18_clear_5 (by first | assumption | (simp [xE_setI, xsz_setI, xsl_setI, xtag_setI, xown_setI, xlen_setI, xE_setR, xsz_setR, xsl_setR, xtag_setR, xown_setR, xlen_setR, xE_setW, xsz_setW, xsl_setW, xtag_setW, xown_setW, xlen_setW, xi_setR, xi_setW, xr_setI, xr_setW, xww_setI, xww_setR, xi_setI, xr_setR, xww_setW, xE_new, xsz_new, xsl_new, t1, t3, t4, t5, xsub]; done) | (simp [xE_setI, xsz_setI, xsl_setI, xtag_setI, xown_setI, xlen_setI, xE_setR, xsz_setR, xsl_setR, xtag_setR, xown_setR, xlen_setR, xE_setW, xsz_setW, xsl_setW, xtag_setW, xown_setW, xlen_setW, xi_setR, xi_setW, xr_setI, xr_setW, xww_setI, xww_setR, xi_setI, xr_setR, xww_setW, xE_new, xsz_new, xsl_new, t1, t3, t4, t5] <;> rfl)) (by simp [xE_setI, xsz_setI, xsl_setI, xtag_setI, xown_setI, xlen_setI, xE_setR, xsz_setR, xsl_setR, xtag_setR, xown_setR, xlen_setR, xE_setW, xsz_setW, xsl_setW, xtag_setW, xown_setW, xlen_setW, xi_setR, xi_setW, xr_setI, xr_setW, xww_setI, xww_setR, xi_setI, xr_setR, xww_setW, xE_new, xsz_new, xsl_new, t1, t3, t4, t5]) ?_
  refine xw_aload_n (pc := 8) dJ18_clear_8 0 rfl ?_
  refine xw_getNat (k := ((h + ls.length) % 17)) (pc := 9) fd_J18_20 dJ18_clear_9 (by first | assumption | (simp [xE_setI, xsz_setI, xsl_setI, xtag_setI, xown_setI, xlen_setI, xE_setR, xsz_setR, xsl_setR, xtag_setR, xown_setR, xlen_setR, xE_setW, xsz_setW, xsl_setW, xtag_setW, xown_setW, xlen_setW, xi_setR, xi_setW, xr_setI, xr_setW, xww_setI, xww_setR, xi_setI, xr_setR, xww_setW, xE_new, xsz_new, xsl_new, t1, t3, t4, t5, xsub]; done) | (simp [xE_setI, xsz_setI, xsl_setI, xtag_setI, xown_setI, xlen_setI, xE_setR, xsz_setR, xsl_setR, xtag_setR, xown_setR, xlen_setR, xE_setW, xsz_setW, xsl_setW, xtag_setW, xown_setW, xlen_setW, xi_setR, xi_setW, xr_setI, xr_setW, xww_setI, xww_setR, xi_setI, xr_setR, xww_setW, xE_new, xsz_new, xsl_new, t1, t3, t4, t5] <;> rfl)) (by simp [xE_setI, xsz_setI, xsl_setI, xtag_setI, xown_setI, xlen_setI, xE_setR, xsz_setR, xsl_setR, xtag_setR, xown_setR, xlen_setR, xE_setW, xsz_setW, xsl_setW, xtag_setW, xown_setW, xlen_setW, xi_setR, xi_setW, xr_setI, xr_setW, xww_setI, xww_setR, xi_setI, xr_setR, xww_setW, xE_new, xsz_new, xsl_new, t1, t3, t4, t5]) ?_
  refine xw_callH (pc := 12) (xr_S (as := [_, _, _]) ok_J18_circularClear rfl (by decide) q2238 q2239 dJ18_clear_12 rfl rfl (Nat.le_of_ble_eq_true rfl)) (SP_J18_circularClear t6 hnr t8 (by omega) t9) ?_
  intro g12 hc12 hm12
  obtain ⟨f9, rfl⟩ := hc12
  have v1 : xtag (xRf g arr f9) a = 21 := by unfold xRf; rw [xtag_pR]; exact t1
  have v2 : xown (xRf g arr f9) a = o := by unfold xRf; rw [xown_pR]; exact t2
  have v3 : xr (xRf g arr f9) a 0 = some arr := by unfold xRf; rw [xr_putN hne]; exact t3
  have v5 : xtag (xRf g arr f9) arr = 108 := by unfold xRf; rw [xtag_pR]; exact t6
  have v6 : xown (xRf g arr f9) arr = o := by unfold xRf; rw [xown_pR]; exact t7
  have v7 : xlen (xRf g arr f9) arr = 17 := by unfold xRf; rw [xlen_pR]; exact t8
  have v8 : xown (xRf g arr f9) a ≠ 0 := by rw [v2]; exact ho
  have v9 : xtag (xRf g arr f9) a ≠ 0 := by rw [v1]; decide
  refine xw_aload_n (pc := 15) dJ18_clear_15 0 rfl ?_
  refine xw_aload_n (pc := 16) dJ18_clear_16 0 rfl ?_
  refine xw_iconst (v := nI 0) (pc := 17) dJ18_clear_17 rfl ?_
  refine xw_dup_x1 (pc := 18) dJ18_clear_18 rfl rfl ?_
  refine xw_putI (pc := 19) fd_J18_20 (xfin_of (by decide) (by decide +kernel)) dJ18_clear_19 (by first | assumption | (simp [xE_setI, xsz_setI, xsl_setI, xtag_setI, xown_setI, xlen_setI, xE_setR, xsz_setR, xsl_setR, xtag_setR, xown_setR, xlen_setR, xE_setW, xsz_setW, xsl_setW, xtag_setW, xown_setW, xlen_setW, xi_setR, xi_setW, xr_setI, xr_setW, xww_setI, xww_setR, xi_setI, xr_setR, xww_setW, xE_new, xsz_new, xsl_new, t1, t3, t4, t5, v1, v8, xsub]; done) | (simp [xE_setI, xsz_setI, xsl_setI, xtag_setI, xown_setI, xlen_setI, xE_setR, xsz_setR, xsl_setR, xtag_setR, xown_setR, xlen_setR, xE_setW, xsz_setW, xsl_setW, xtag_setW, xown_setW, xlen_setW, xi_setR, xi_setW, xr_setI, xr_setW, xww_setI, xww_setR, xi_setI, xr_setR, xww_setW, xE_new, xsz_new, xsl_new, t1, t3, t4, t5, v1, v8] <;> rfl)) (by first | assumption | (simp [xE_setI, xsz_setI, xsl_setI, xtag_setI, xown_setI, xlen_setI, xE_setR, xsz_setR, xsl_setR, xtag_setR, xown_setR, xlen_setR, xE_setW, xsz_setW, xsl_setW, xtag_setW, xown_setW, xlen_setW, xi_setR, xi_setW, xr_setI, xr_setW, xww_setI, xww_setR, xi_setI, xr_setR, xww_setW, xE_new, xsz_new, xsl_new, t1, t3, t4, t5, v1, v8]; done) | (simp [xE_setI, xsz_setI, xsl_setI, xtag_setI, xown_setI, xlen_setI, xE_setR, xsz_setR, xsl_setR, xtag_setR, xown_setR, xlen_setR, xE_setW, xsz_setW, xsl_setW, xtag_setW, xown_setW, xlen_setW, xi_setR, xi_setW, xr_setI, xr_setW, xww_setI, xww_setR, xi_setI, xr_setR, xww_setW, xE_new, xsz_new, xsl_new, t1, t3, t4, t5, v1, v8]; assumption)) ?_
  refine xw_putI (pc := 22) fd_J18_24 (xfin_of (by decide) (by decide +kernel)) dJ18_clear_22 (by first | assumption | (simp [xE_setI, xsz_setI, xsl_setI, xtag_setI, xown_setI, xlen_setI, xE_setR, xsz_setR, xsl_setR, xtag_setR, xown_setR, xlen_setR, xE_setW, xsz_setW, xsl_setW, xtag_setW, xown_setW, xlen_setW, xi_setR, xi_setW, xr_setI, xr_setW, xww_setI, xww_setR, xi_setI, xr_setR, xww_setW, xE_new, xsz_new, xsl_new, t1, t3, t4, t5, v1, v8, xsub]; done) | (simp [xE_setI, xsz_setI, xsl_setI, xtag_setI, xown_setI, xlen_setI, xE_setR, xsz_setR, xsl_setR, xtag_setR, xown_setR, xlen_setR, xE_setW, xsz_setW, xsl_setW, xtag_setW, xown_setW, xlen_setW, xi_setR, xi_setW, xr_setI, xr_setW, xww_setI, xww_setR, xi_setI, xr_setR, xww_setW, xE_new, xsz_new, xsl_new, t1, t3, t4, t5, v1, v8] <;> rfl)) (by first | assumption | (simp [xE_setI, xsz_setI, xsl_setI, xtag_setI, xown_setI, xlen_setI, xE_setR, xsz_setR, xsl_setR, xtag_setR, xown_setR, xlen_setR, xE_setW, xsz_setW, xsl_setW, xtag_setW, xown_setW, xlen_setW, xi_setR, xi_setW, xr_setI, xr_setW, xww_setI, xww_setR, xi_setI, xr_setR, xww_setW, xE_new, xsz_new, xsl_new, t1, t3, t4, t5, v1, v8]; done) | (simp [xE_setI, xsz_setI, xsl_setI, xtag_setI, xown_setI, xlen_setI, xE_setR, xsz_setR, xsl_setR, xtag_setR, xown_setR, xlen_setR, xE_setW, xsz_setW, xsl_setW, xtag_setW, xown_setW, xlen_setW, xi_setR, xi_setW, xr_setI, xr_setW, xww_setI, xww_setR, xi_setI, xr_setR, xww_setW, xE_new, xsz_new, xsl_new, t1, t3, t4, t5, v1, v8]; assumption)) ?_
  refine xw_vret (pc := 25) dJ18_clear_25 rfl ?_
  refine ⟨rfl, ⟨?_, ?_, ?_, ?_, ?_, ?_, ?_, ?_, by omega, by simp, fun i hi => absurd hi (Nat.not_lt_zero i)⟩, ?_⟩
  · rw [xtag_setI, xtag_setI]; exact v1
  · rw [xown_setI, xown_setI]; exact v2
  · rw [xr_setI, xr_setI]; exact v3
  · rw [xi_setIS (by rw [xtag_setI]; exact v9)]
  · rw [xi_setIK (by decide), xi_setIS v9]; rfl
  · rw [xtag_setI, xtag_setI]; exact v5
  · rw [xown_setI, xown_setI]; exact v6
  · rw [xlen_setI, xlen_setI]; exact v7
  · exact ((xFr.rf.pR (Or.inr t7)).si (Or.inr v2)).si (Or.inr (by rw [xown_setI]; exact v2))

theorem SP_J18_initX {d : Nat} {g : xG} {a o : Nat} (t1 : xtag g a = 21) (ho : xown g a = o) (o0 : o ≠ 0) : XM M_J18_init (d + 2) [.ref a] g (xOne none (xsetR (xNew g (xBlank 108 o 17) 17) a 0 (some (xsz g)))) := by
  have h0 : xown g a ≠ 0 := by rw [ho]; exact o0
  have hlt : a < xsz g := xlt (by rw [t1]; decide)
  refine xm_of (by decide +kernel) (Nat.le_of_ble_eq_true rfl) ?_
  show XW _ _ 0 [(0, _)] [] _ _
  refine xw_aload_n (pc := 0) dJ18_init_0 0 rfl ?_
  refine xw_callU (pc := 1) (xr_I (as := []) ok_J0_init rfl (by decide) q612 q166 rfl rfl dJ18_init_1 rfl rfl (Nat.le_of_ble_eq_true rfl)) (SP_J0_init) ?_
  refine xw_aload_n (pc := 4) dJ18_init_4 0 rfl ?_
  refine xw_bipush (v := nI 17) (pc := 5) dJ18_init_5 (by decide +kernel) ?_
  refine xw_anew (q := 7) (n := 17) (pc := 7) o dJ18_init_7 (by decide) (by decide) rfl q613 (by decide) (by first | decide | assumption | omega) rfl (by omega) ?_
  refine xw_at (a := (xsz g)) (by rfl) ?_
  refine xw_putR (o := (some (xsz g))) (pc := 10) fd_J18_3 (xfin_of (by decide) (by decide +kernel)) dJ18_init_10 (by first | assumption | (simp (disch := (first | omega | (simp only [xE_setI, xsz_setI, xsl_setI, xtag_setI, xown_setI, xlen_setI, xE_setR, xsz_setR, xsl_setR, xtag_setR, xown_setR, xlen_setR, xE_setW, xsz_setW, xsl_setW, xtag_setW, xown_setW, xlen_setW, xi_setR, xi_setW, xr_setI, xr_setW, xww_setI, xww_setR, xi_setI, xr_setR, xww_setW, xE_new, xsz_new, xsl_new]; omega))) [xE_setI, xsz_setI, xsl_setI, xtag_setI, xown_setI, xlen_setI, xE_setR, xsz_setR, xsl_setR, xtag_setR, xown_setR, xlen_setR, xE_setW, xsz_setW, xsl_setW, xtag_setW, xown_setW, xlen_setW, xi_setR, xi_setW, xr_setI, xr_setW, xww_setI, xww_setR, xi_setI, xr_setR, xww_setW, xE_new, xsz_new, xsl_new, xtag_new, xown_new, xlen_new, xi_new, xr_new, xww_new, xtag_newS, xown_newS, xlen_newS, xi_newS, xr_newS, xww_newS, t1, h0, xsub]; done) | (simp (disch := (first | omega | (simp only [xE_setI, xsz_setI, xsl_setI, xtag_setI, xown_setI, xlen_setI, xE_setR, xsz_setR, xsl_setR, xtag_setR, xown_setR, xlen_setR, xE_setW, xsz_setW, xsl_setW, xtag_setW, xown_setW, xlen_setW, xi_setR, xi_setW, xr_setI, xr_setW, xww_setI, xww_setR, xi_setI, xr_setR, xww_setW, xE_new, xsz_new, xsl_new]; omega))) [xE_setI, xsz_setI, xsl_setI, xtag_setI, xown_setI, xlen_setI, xE_setR, xsz_setR, xsl_setR, xtag_setR, xown_setR, xlen_setR, xE_setW, xsz_setW, xsl_setW, xtag_setW, xown_setW, xlen_setW, xi_setR, xi_setW, xr_setI, xr_setW, xww_setI, xww_setR, xi_setI, xr_setR, xww_setW, xE_new, xsz_new, xsl_new, xtag_new, xown_new, xlen_new, xi_new, xr_new, xww_new, xtag_newS, xown_newS, xlen_newS, xi_newS, xr_newS, xww_newS, t1, h0] <;> rfl)) (by first | assumption | (simp (disch := (first | omega | (simp only [xE_setI, xsz_setI, xsl_setI, xtag_setI, xown_setI, xlen_setI, xE_setR, xsz_setR, xsl_setR, xtag_setR, xown_setR, xlen_setR, xE_setW, xsz_setW, xsl_setW, xtag_setW, xown_setW, xlen_setW, xi_setR, xi_setW, xr_setI, xr_setW, xww_setI, xww_setR, xi_setI, xr_setR, xww_setW, xE_new, xsz_new, xsl_new]; omega))) [xE_setI, xsz_setI, xsl_setI, xtag_setI, xown_setI, xlen_setI, xE_setR, xsz_setR, xsl_setR, xtag_setR, xown_setR, xlen_setR, xE_setW, xsz_setW, xsl_setW, xtag_setW, xown_setW, xlen_setW, xi_setR, xi_setW, xr_setI, xr_setW, xww_setI, xww_setR, xi_setI, xr_setR, xww_setW, xE_new, xsz_new, xsl_new, xtag_new, xown_new, xlen_new, xi_new, xr_new, xww_new, xtag_newS, xown_newS, xlen_newS, xi_newS, xr_newS, xww_newS, t1, h0]; done) | (simp (disch := (first | omega | (simp only [xE_setI, xsz_setI, xsl_setI, xtag_setI, xown_setI, xlen_setI, xE_setR, xsz_setR, xsl_setR, xtag_setR, xown_setR, xlen_setR, xE_setW, xsz_setW, xsl_setW, xtag_setW, xown_setW, xlen_setW, xi_setR, xi_setW, xr_setI, xr_setW, xww_setI, xww_setR, xi_setI, xr_setR, xww_setW, xE_new, xsz_new, xsl_new]; omega))) [xE_setI, xsz_setI, xsl_setI, xtag_setI, xown_setI, xlen_setI, xE_setR, xsz_setR, xsl_setR, xtag_setR, xown_setR, xlen_setR, xE_setW, xsz_setW, xsl_setW, xtag_setW, xown_setW, xlen_setW, xi_setR, xi_setW, xr_setI, xr_setW, xww_setI, xww_setR, xi_setI, xr_setR, xww_setW, xE_new, xsz_new, xsl_new, xtag_new, xown_new, xlen_new, xi_new, xr_new, xww_new, xtag_newS, xown_newS, xlen_newS, xi_newS, xr_newS, xww_newS, t1, h0]; assumption)) rfl ?_
  refine xw_vret (pc := 13) dJ18_init_13 rfl ?_
  exact ⟨rfl, rfl⟩

theorem SP_J18_init {d : Nat} {g : xG} {a o : Nat} (t1 : xtag g a = 21) (ho : xown g a = o) (h1 : xi g a 1 = nI 0) (h2 : xi g a 2 = nI 0) (o0 : o ≠ 0) : XM M_J18_init (d + 2) [.ref a] g (xVoid (fun g' => xAD g' o a (xsz g) 0 [] ∧ xFr (oEq o) 18 g g')) := by
  refine (SP_J18_initX t1 ho o0).mono (fun rs g' hp _ => ?_)
  obtain ⟨rfl, rfl⟩ := hp
  have hlt : a < xsz g := xlt (by rw [t1]; decide)
  refine ⟨rfl, ⟨?_, ?_, ?_, ?_, ?_, ?_, ?_, ?_, by omega, by simp, fun i hi => absurd hi (Nat.not_lt_zero i)⟩, ?_⟩
  · rw [xtag_setR, xtag_new hlt]; exact t1
  · rw [xown_setR, xown_new hlt]; exact ho
  · rw [xr_setRS (by rw [xtag_new hlt, t1]; decide)]
  · rw [xi_setR, xi_new hlt]; exact h1
  · rw [xi_setR, xi_new hlt]; exact h2
  · rw [xtag_setR, xtag_newS rfl]; rfl
  · rw [xown_setR, xown_newS rfl]; rfl
  · rw [xlen_setR, xlen_newS rfl]; rfl
  · have F : xFr (oEq o) (0 + 18) g (xNew g (xBlank 108 o 17) 17) := xFr.rf.nw
    exact (F.sr (Or.inr (by rw [xown_new hlt]; exact ho))).sub (fun _ h => h) (by omega)
