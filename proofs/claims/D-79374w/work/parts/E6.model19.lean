/-! MODEL 19: the reference reads a rule -/
set_option maxRecDepth 100000
def pfK (c : Nat) : Option Nat := if c = 112 then some 0 else if c = 102 then some 1 else if c = 108 then some 2 else if c = 120 then some 3 else none
theorem fIx_pf (c : Nat) : fIx (gD (xTxt 8)) c (xTxt 8).length 0 = pfK c := by
  have e : (xTxt 8).length = 4 := by decide +kernel
  have z0 : gD (xTxt 8) 0 = 112 := by decide +kernel
  have z1 : gD (xTxt 8) (0 + 1) = 102 := by decide +kernel
  have z2 : gD (xTxt 8) (0 + 1 + 1) = 108 := by decide +kernel
  have z3 : gD (xTxt 8) (0 + 1 + 1 + 1) = 120 := by decide +kernel
  rw [e]
  simp only [fIx]
  rw [z0, z1, z2, z3]
  unfold pfK
  simp only [eq_comm]
theorem r1o_pf {ln : Nat} {ch : Nat → Nat} : r1o ln ch false 0 8 = if 0 < ln then pfK (ch 0) else none := by
  unfold r1o
  rw [fIx_pf]
  by_cases h : 0 < ln
  · rw [if_pos h, if_pos ⟨rfl, h⟩]
  · rw [if_neg h, if_neg (fun e => h e.2)]
theorem hIs_0 {ln c : Nat} {ch : Nat → Nat} : hIs ln ch 0 c = decide (0 < ln ∧ ch 0 = c) := rfl
theorem rHd_N {ln : Nat} {ch : Nat → Nat} (h : r1o ln ch false 0 8 = none) : rHd ln ch 0 = .error 0 := by
  rw [r1o_pf] at h
  have k : ∀ c, c = 112 ∨ c = 102 ∨ c = 108 ∨ c = 120 → ¬ hIs ln ch 0 c = true := fun c hc e9 => by
    have h9 := of_decide_eq_true e9
    rw [if_pos h9.1, h9.2] at h
    rcases hc with rfl | rfl | rfl | rfl <;> exact absurd h (by decide)
  unfold rHd
  rw [if_neg (k 120 (by decide)), if_neg (k 112 (by decide)), if_neg (k 102 (by decide)), if_neg (k 108 (by decide))]
theorem r1o_is {ln k : Nat} {ch : Nat → Nat} (h : r1o ln ch false 0 8 = some k) : 0 < ln ∧ k < 4 ∧ ch 0 = (if k = 0 then 112 else if k = 1 then 102 else if k = 2 then 108 else 120) := by
  rw [r1o_pf] at h
  split at h
  · rename_i h1
    refine ⟨h1, ?_⟩
    unfold pfK at h
    repeat' split at h
    all_goals cases h
    all_goals (constructor; · decide)
    all_goals simp_all
  · cases h
theorem rHd_K {ln k : Nat} {ch : Nat → Nat} (h : r1o ln ch false 0 8 = some k) (hk : k < 3) : rHd ln ch 0 = .ok ((some k, none), 0 + 1) := by
  obtain ⟨h1, h2, h3⟩ := r1o_is h
  unfold rHd
  have h9 : k = 0 ∨ k = 1 ∨ k = 2 := by omega
  simp only [hIs_0]
  rcases h9 with rfl | rfl | rfl
  · simp [h1, h3]
  · simp [h1, h3]
  · simp [h1, h3]
theorem rHd_x {ln : Nat} {ch : Nat → Nat} (h : r1o ln ch false 0 8 = some 3) : hIs ln ch 0 120 = true := by
  obtain ⟨h1, h2, h3⟩ := r1o_is h
  exact decide_eq_true ⟨h1, h3⟩

theorem rr_N {d : Nat} {g : xG} {m : Nat} {S : xMS} (hM : xMod g m) (hSC : xSC g) {ln : Nat} {ch : Nat → Nat} (hl : S 0 22 = nI ln) (hln : ln ≤ 60) (hch : ∀ j, j < ln → S 12 j = nI (ch j) ∧ ch j < 65536) (h11 : S 0 11 = nI 0) (h : r1o ln ch false 0 8 = none) : XW M_X6_readRule (d + 6) 0 [(0, .ref m)] [] (xWith g m (rdS S false 0)) (xMR g m S ln (rAll ln ch)) := by
  unfold rAll
  rw [rHd_N h]
  dsimp only
  refine xw_aload_n (pc := 0) dX6_readRule_0 0 rfl ?_
  refine xw_aload_n (pc := 1) dX6_readRule_1 0 rfl ?_
  refine xw_ldcwS (i := 8) (pc := 2) dX6_readRule_2 rfl ?_
  refine xw_callV (pc := 5) (xr_V (as := [_]) ok_X6_oneOf rfl (by decide) q2681 q2683 qs83 (by rw [xtag_with, hM.1]; rfl) (by rw [xtag_with, hM.1]; rfl) dX6_readRule_5 rfl rfl (Nat.le_of_ble_eq_true rfl)) (SP_X6_oneOf_F (w := false) hM (i := 8) (by decide) hSC hl hln hch (Nat.zero_le _) h) ?_
  refine xm_putI (pc := 8) hM fd_X6_284 (xfin_of (by decide) (by decide +kernel)) dX6_readRule_8 ?_
  refine xw_aload_n (pc := 11) dX6_readRule_11 0 rfl ?_
  refine xw_iconst (v := -1) (pc := 12) dX6_readRule_12 (by decide +kernel) ?_
  refine xm_putI (pc := 13) hM fd_X6_287 (xfin_of (by decide) (by decide +kernel)) dX6_readRule_13 ?_
  refine xw_aload_n (pc := 16) dX6_readRule_16 0 rfl ?_
  refine xm_getI (pc := 17) hM fd_X6_284 dX6_readRule_17 ?_
  refine xw_iconst (v := nI 3) (pc := 20) dX6_readRule_20 rfl ?_
  refine xw_icmp_ne (pc := 21) 43 dX6_readRule_21 rfl (fun hb21 => ?_) (fun hb21 => ?_)
  rotate_left
  · exfalso
    exact absurd (show (-1 : Int32) = nI 3 from hb21) (by decide)
  rw [rdS_m (Or.inr ⟨by decide, by decide⟩), rdS_m (Or.inr ⟨by decide, by decide⟩)]
  exact (rw_43 hM hSC (show (mset (mset S 0 26 (-1)) 0 27 (-1)) 0 22 = nI ln from ((mAl.st (j := 27) (v := (-1)) (mAl.st (j := 26) (v := (-1)) mAl.rf (by decide)) (by decide))).l hl) hln (show ∀ j, j < ln → (mset (mset S 0 26 (-1)) 0 27 (-1)) 12 j = nI (ch j) ∧ ch j < 65536 from ((mAl.st (j := 27) (v := (-1)) (mAl.st (j := 26) (v := (-1)) mAl.rf (by decide)) (by decide))).c hch) (Nat.zero_le _)).mono (fun _ _ h9 _ => h9.r (mAl.st (j := 27) (v := (-1)) (mAl.st (j := 26) (v := (-1)) mAl.rf (by decide)) (by decide)) (Nat.zero_le _))
theorem rr_K {d : Nat} {g : xG} {m : Nat} {S : xMS} (hM : xMod g m) (hSC : xSC g) {ln : Nat} {ch : Nat → Nat} (hl : S 0 22 = nI ln) (hln : ln ≤ 60) (hch : ∀ j, j < ln → S 12 j = nI (ch j) ∧ ch j < 65536) (h11 : S 0 11 = nI 0) {k : Nat} (h : r1o ln ch false 0 8 = some k) (hk : k < 3) : XW M_X6_readRule (d + 6) 0 [(0, .ref m)] [] (xWith g m (rdS S false 0)) (xMR g m S ln (rAll ln ch)) := by
  unfold rAll
  rw [rHd_K h hk]
  dsimp only
  have h1 := (r1o_is h).1
  refine xw_aload_n (pc := 0) dX6_readRule_0 0 rfl ?_
  refine xw_aload_n (pc := 1) dX6_readRule_1 0 rfl ?_
  refine xw_ldcwS (i := 8) (pc := 2) dX6_readRule_2 rfl ?_
  refine xw_callV (pc := 5) (xr_V (as := [_]) ok_X6_oneOf rfl (by decide) q2681 q2683 qs83 (by rw [xtag_with, hM.1]; rfl) (by rw [xtag_with, hM.1]; rfl) dX6_readRule_5 rfl rfl (Nat.le_of_ble_eq_true rfl)) (SP_X6_oneOf_T (w := false) hM (i := 8) (by decide) hSC hl hln hch (Nat.zero_le _) h) ?_
  refine xm_putI (pc := 8) hM fd_X6_284 (xfin_of (by decide) (by decide +kernel)) dX6_readRule_8 ?_
  refine xw_aload_n (pc := 11) dX6_readRule_11 0 rfl ?_
  refine xw_iconst (v := -1) (pc := 12) dX6_readRule_12 (by decide +kernel) ?_
  refine xm_putI (pc := 13) hM fd_X6_287 (xfin_of (by decide) (by decide +kernel)) dX6_readRule_13 ?_
  refine xw_aload_n (pc := 16) dX6_readRule_16 0 rfl ?_
  refine xm_getN (k := k) (pc := 17) hM fd_X6_284 dX6_readRule_17 (by first | rfl | (simp [mset, mcpy]; done)) ?_
  refine xw_iconst (v := nI 3) (pc := 20) dX6_readRule_20 rfl ?_
  refine xw_icmp_ne (pc := 21) 43 dX6_readRule_21 rfl (fun hb21 => ?_) (fun hb21 => ?_)
  rotate_left
  · exfalso
    replace hb21 : k = 3 := (nI_eq (a := k) (b := 3) (by omega) (by omega)).mp hb21
    omega
  replace hb21 : ¬ (k = 3) := mt (nI_eq (a := k) (b := 3) (by omega) (by omega)).mpr hb21
  rw [rdS_m (Or.inr ⟨by decide, by decide⟩), rdS_m (Or.inr ⟨by decide, by decide⟩)]
  exact (rn_43 (e := some k) (o := none) hM hSC (show (mset (mset S 0 26 (nI k)) 0 27 (-1)) 0 22 = nI ln from ((mAl.st (j := 27) (v := (-1)) (mAl.st (j := 26) (v := (nI k)) mAl.rf (by decide)) (by decide))).l hl) hln (show ∀ j, j < ln → (mset (mset S 0 26 (nI k)) 0 27 (-1)) 12 j = nI (ch j) ∧ ch j < 65536 from ((mAl.st (j := 27) (v := (-1)) (mAl.st (j := 26) (v := (nI k)) mAl.rf (by decide)) (by decide))).c hch) (by omega) rfl rfl h11).mono (fun _ _ h9 _ => h9.al (mAl.st (j := 27) (v := (-1)) (mAl.st (j := 26) (v := (nI k)) mAl.rf (by decide)) (by decide)))
theorem rr_3F {d : Nat} {g : xG} {m : Nat} {S : xMS} (hM : xMod g m) (hSC : xSC g) {ln : Nat} {ch : Nat → Nat} (hl : S 0 22 = nI ln) (hln : ln ≤ 60) (hch : ∀ j, j < ln → S 12 j = nI (ch j) ∧ ch j < 65536) (h11 : S 0 11 = nI 0) (h : r1o ln ch false 0 8 = some 3) (hi : hIn ln ch (0 + 1) 48 57 = false) : XW M_X6_readRule (d + 6) 0 [(0, .ref m)] [] (xWith g m (rdS S false 0)) (xMR g m S ln (rAll ln ch)) := by
  unfold rAll rHd
  rw [if_pos (rHd_x h)]
  have h1 := (r1o_is h).1
  rw [if_neg (Bool.eq_false_iff.mp hi)]
  dsimp only
  refine xw_aload_n (pc := 0) dX6_readRule_0 0 rfl ?_
  refine xw_aload_n (pc := 1) dX6_readRule_1 0 rfl ?_
  refine xw_ldcwS (i := 8) (pc := 2) dX6_readRule_2 rfl ?_
  refine xw_callV (pc := 5) (xr_V (as := [_]) ok_X6_oneOf rfl (by decide) q2681 q2683 qs83 (by rw [xtag_with, hM.1]; rfl) (by rw [xtag_with, hM.1]; rfl) dX6_readRule_5 rfl rfl (Nat.le_of_ble_eq_true rfl)) (SP_X6_oneOf_T (w := false) hM (i := 8) (by decide) hSC hl hln hch (Nat.zero_le _) h) ?_
  refine xm_putI (pc := 8) hM fd_X6_284 (xfin_of (by decide) (by decide +kernel)) dX6_readRule_8 ?_
  refine xw_aload_n (pc := 11) dX6_readRule_11 0 rfl ?_
  refine xw_iconst (v := -1) (pc := 12) dX6_readRule_12 (by decide +kernel) ?_
  refine xm_putI (pc := 13) hM fd_X6_287 (xfin_of (by decide) (by decide +kernel)) dX6_readRule_13 ?_
  refine xw_aload_n (pc := 16) dX6_readRule_16 0 rfl ?_
  refine xm_getN (k := 3) (pc := 17) hM fd_X6_284 dX6_readRule_17 (by first | rfl | (simp [mset, mcpy]; done)) ?_
  refine xw_iconst (v := nI 3) (pc := 20) dX6_readRule_20 rfl ?_
  refine xw_icmp_ne (pc := 21) 43 dX6_readRule_21 rfl (fun hb => absurd hb (by decide)) (fun _ => ?_)
  refine xw_aload_n (pc := 24) dX6_readRule_24 0 rfl ?_
  refine xw_iconst (v := -1) (pc := 25) dX6_readRule_25 (by decide +kernel) ?_
  refine xm_putI (pc := 26) hM fd_X6_284 (xfin_of (by decide) (by decide +kernel)) dX6_readRule_26 ?_
  rw [rdS_m (Or.inr ⟨by decide, by decide⟩), rdS_m (Or.inr ⟨by decide, by decide⟩), rdS_m (Or.inr ⟨by decide, by decide⟩)]
  refine xw_aload_n (pc := 29) dX6_readRule_29 0 rfl ?_
  refine xw_aload_n (pc := 30) dX6_readRule_30 0 rfl ?_
  refine xw_callV (pc := 31) (xr_V (as := []) ok_X6_number rfl (by decide) q2686 q2688 qs84 (by rw [xtag_with, hM.1]; rfl) (by rw [xtag_with, hM.1]; rfl) dX6_readRule_31 rfl rfl (Nat.le_of_ble_eq_true rfl)) (SP_X6_number_F (w := false) hM (show (mset (mset (mset S 0 26 (nI 3)) 0 27 (-1)) 0 26 (-1)) 0 22 = nI ln from ((mAl.st (j := 26) (v := (-1)) (mAl.st (j := 27) (v := (-1)) (mAl.st (j := 26) (v := (nI 3)) mAl.rf (by decide)) (by decide)) (by decide))).l hl) hln (show ∀ j, j < ln → (mset (mset (mset S 0 26 (nI 3)) 0 27 (-1)) 0 26 (-1)) 12 j = nI (ch j) ∧ ch j < 65536 from ((mAl.st (j := 26) (v := (-1)) (mAl.st (j := 27) (v := (-1)) (mAl.st (j := 26) (v := (nI 3)) mAl.rf (by decide)) (by decide)) (by decide))).c hch) (by omega) hi) ?_
  refine xm_putI (pc := 34) hM fd_X6_287 (xfin_of (by decide) (by decide +kernel)) dX6_readRule_34 ?_
  rw [rdS_m (Or.inr ⟨by decide, by decide⟩)]
  exact (rw_37 hM hSC (show (mset (mset (mset (mset S 0 26 (nI 3)) 0 27 (-1)) 0 26 (-1)) 0 27 (nI 0)) 0 22 = nI ln from ((mAl.st (j := 27) (v := (nI 0)) (mAl.st (j := 26) (v := (-1)) (mAl.st (j := 27) (v := (-1)) (mAl.st (j := 26) (v := (nI 3)) mAl.rf (by decide)) (by decide)) (by decide)) (by decide))).l hl) hln (show ∀ j, j < ln → (mset (mset (mset (mset S 0 26 (nI 3)) 0 27 (-1)) 0 26 (-1)) 0 27 (nI 0)) 12 j = nI (ch j) ∧ ch j < 65536 from ((mAl.st (j := 27) (v := (nI 0)) (mAl.st (j := 26) (v := (-1)) (mAl.st (j := 27) (v := (-1)) (mAl.st (j := 26) (v := (nI 3)) mAl.rf (by decide)) (by decide)) (by decide)) (by decide))).c hch) (by omega)).mono (fun _ _ h9 _ => h9.r (mAl.st (j := 27) (v := (nI 0)) (mAl.st (j := 26) (v := (-1)) (mAl.st (j := 27) (v := (-1)) (mAl.st (j := 26) (v := (nI 3)) mAl.rf (by decide)) (by decide)) (by decide)) (by decide)) (by omega))
theorem rr_3c {d : Nat} {g : xG} {m : Nat} {S : xMS} (hM : xMod g m) (hSC : xSC g) {ln : Nat} {ch : Nat → Nat} (hl : S 0 22 = nI ln) (hln : ln ≤ 60) (hch : ∀ j, j < ln → S 12 j = nI (ch j) ∧ ch j < 65536) (h11 : S 0 11 = nI 0) (h : r1o ln ch false 0 8 = some 3) (hi : hIn ln ch (0 + 1) 48 57 = true) (hc : hIs ln ch (rNs ln ch 2 (ch (0 + 1) - 48) (0 + 1 + 1)).2 58 = false) : XW M_X6_readRule (d + 6) 0 [(0, .ref m)] [] (xWith g m (rdS S false 0)) (xMR g m S ln (rAll ln ch)) := by
  unfold rAll rHd
  rw [if_pos (rHd_x h)]
  have h1 := (r1o_is h).1
  rw [if_pos hi, if_neg (Bool.eq_false_iff.mp hc)]
  dsimp only
  have hpi := (of_decide_eq_true hi).1
  have hNl := rNs_le (n := ln) (ch := ch) 2 (ch (0 + 1) - 48) (0 + 1 + 1) (by omega)
  refine xw_aload_n (pc := 0) dX6_readRule_0 0 rfl ?_
  refine xw_aload_n (pc := 1) dX6_readRule_1 0 rfl ?_
  refine xw_ldcwS (i := 8) (pc := 2) dX6_readRule_2 rfl ?_
  refine xw_callV (pc := 5) (xr_V (as := [_]) ok_X6_oneOf rfl (by decide) q2681 q2683 qs83 (by rw [xtag_with, hM.1]; rfl) (by rw [xtag_with, hM.1]; rfl) dX6_readRule_5 rfl rfl (Nat.le_of_ble_eq_true rfl)) (SP_X6_oneOf_T (w := false) hM (i := 8) (by decide) hSC hl hln hch (Nat.zero_le _) h) ?_
  refine xm_putI (pc := 8) hM fd_X6_284 (xfin_of (by decide) (by decide +kernel)) dX6_readRule_8 ?_
  refine xw_aload_n (pc := 11) dX6_readRule_11 0 rfl ?_
  refine xw_iconst (v := -1) (pc := 12) dX6_readRule_12 (by decide +kernel) ?_
  refine xm_putI (pc := 13) hM fd_X6_287 (xfin_of (by decide) (by decide +kernel)) dX6_readRule_13 ?_
  refine xw_aload_n (pc := 16) dX6_readRule_16 0 rfl ?_
  refine xm_getN (k := 3) (pc := 17) hM fd_X6_284 dX6_readRule_17 (by first | rfl | (simp [mset, mcpy]; done)) ?_
  refine xw_iconst (v := nI 3) (pc := 20) dX6_readRule_20 rfl ?_
  refine xw_icmp_ne (pc := 21) 43 dX6_readRule_21 rfl (fun hb => absurd hb (by decide)) (fun _ => ?_)
  refine xw_aload_n (pc := 24) dX6_readRule_24 0 rfl ?_
  refine xw_iconst (v := -1) (pc := 25) dX6_readRule_25 (by decide +kernel) ?_
  refine xm_putI (pc := 26) hM fd_X6_284 (xfin_of (by decide) (by decide +kernel)) dX6_readRule_26 ?_
  rw [rdS_m (Or.inr ⟨by decide, by decide⟩), rdS_m (Or.inr ⟨by decide, by decide⟩), rdS_m (Or.inr ⟨by decide, by decide⟩)]
  refine xw_aload_n (pc := 29) dX6_readRule_29 0 rfl ?_
  refine xw_aload_n (pc := 30) dX6_readRule_30 0 rfl ?_
  refine xw_callV (pc := 31) (xr_V (as := []) ok_X6_number rfl (by decide) q2686 q2688 qs84 (by rw [xtag_with, hM.1]; rfl) (by rw [xtag_with, hM.1]; rfl) dX6_readRule_31 rfl rfl (Nat.le_of_ble_eq_true rfl)) (SP_X6_number_T (w := false) hM (show (mset (mset (mset S 0 26 (nI 3)) 0 27 (-1)) 0 26 (-1)) 0 22 = nI ln from ((mAl.st (j := 26) (v := (-1)) (mAl.st (j := 27) (v := (-1)) (mAl.st (j := 26) (v := (nI 3)) mAl.rf (by decide)) (by decide)) (by decide))).l hl) hln (show ∀ j, j < ln → (mset (mset (mset S 0 26 (nI 3)) 0 27 (-1)) 0 26 (-1)) 12 j = nI (ch j) ∧ ch j < 65536 from ((mAl.st (j := 26) (v := (-1)) (mAl.st (j := 27) (v := (-1)) (mAl.st (j := 26) (v := (nI 3)) mAl.rf (by decide)) (by decide)) (by decide))).c hch) (by omega) hi) ?_
  refine xm_putI (pc := 34) hM fd_X6_287 (xfin_of (by decide) (by decide +kernel)) dX6_readRule_34 ?_
  rw [rdS_m (Or.inr ⟨by decide, by decide⟩)]
  refine xw_aload_n (pc := 37) dX6_readRule_37 0 rfl ?_
  refine xw_bipush (v := nI 58) (pc := 38) dX6_readRule_38 (by decide +kernel) ?_
  refine xw_callU (pc := 40) (xr_V (as := [_]) ok_X6_sign rfl (by decide) q2698 q2700 qs87 (by rw [xtag_with, hM.1]; rfl) (by rw [xtag_with, hM.1]; rfl) dX6_readRule_40 rfl rfl (Nat.le_of_ble_eq_true rfl)) (SP_X6_sign_F (w := false) (c := 58) hM (by decide) (show (mset (mset (mset (mset S 0 26 (nI 3)) 0 27 (-1)) 0 26 (-1)) 0 27 (nI (rNs ln ch 2 (ch (0 + 1) - 48) (0 + 1 + 1)).1)) 0 22 = nI ln from ((mAl.st (j := 27) (v := (nI (rNs ln ch 2 (ch (0 + 1) - 48) (0 + 1 + 1)).1)) (mAl.st (j := 26) (v := (-1)) (mAl.st (j := 27) (v := (-1)) (mAl.st (j := 26) (v := (nI 3)) mAl.rf (by decide)) (by decide)) (by decide)) (by decide))).l hl) hln (show ∀ j, j < ln → (mset (mset (mset (mset S 0 26 (nI 3)) 0 27 (-1)) 0 26 (-1)) 0 27 (nI (rNs ln ch 2 (ch (0 + 1) - 48) (0 + 1 + 1)).1)) 12 j = nI (ch j) ∧ ch j < 65536 from ((mAl.st (j := 27) (v := (nI (rNs ln ch 2 (ch (0 + 1) - 48) (0 + 1 + 1)).1)) (mAl.st (j := 26) (v := (-1)) (mAl.st (j := 27) (v := (-1)) (mAl.st (j := 26) (v := (nI 3)) mAl.rf (by decide)) (by decide)) (by decide)) (by decide))).c hch) hNl.2 hc) ?_
  exact (rw_43 hM hSC (show (mset (mset (mset (mset S 0 26 (nI 3)) 0 27 (-1)) 0 26 (-1)) 0 27 (nI (rNs ln ch 2 (ch (0 + 1) - 48) (0 + 1 + 1)).1)) 0 22 = nI ln from ((mAl.st (j := 27) (v := (nI (rNs ln ch 2 (ch (0 + 1) - 48) (0 + 1 + 1)).1)) (mAl.st (j := 26) (v := (-1)) (mAl.st (j := 27) (v := (-1)) (mAl.st (j := 26) (v := (nI 3)) mAl.rf (by decide)) (by decide)) (by decide)) (by decide))).l hl) hln (show ∀ j, j < ln → (mset (mset (mset (mset S 0 26 (nI 3)) 0 27 (-1)) 0 26 (-1)) 0 27 (nI (rNs ln ch 2 (ch (0 + 1) - 48) (0 + 1 + 1)).1)) 12 j = nI (ch j) ∧ ch j < 65536 from ((mAl.st (j := 27) (v := (nI (rNs ln ch 2 (ch (0 + 1) - 48) (0 + 1 + 1)).1)) (mAl.st (j := 26) (v := (-1)) (mAl.st (j := 27) (v := (-1)) (mAl.st (j := 26) (v := (nI 3)) mAl.rf (by decide)) (by decide)) (by decide)) (by decide))).c hch) hNl.2).mono (fun _ _ h9 _ => h9.r (mAl.st (j := 27) (v := (nI (rNs ln ch 2 (ch (0 + 1) - 48) (0 + 1 + 1)).1)) (mAl.st (j := 26) (v := (-1)) (mAl.st (j := 27) (v := (-1)) (mAl.st (j := 26) (v := (nI 3)) mAl.rf (by decide)) (by decide)) (by decide)) (by decide)) hNl.2)
theorem rr_3C {d : Nat} {g : xG} {m : Nat} {S : xMS} (hM : xMod g m) (hSC : xSC g) {ln : Nat} {ch : Nat → Nat} (hl : S 0 22 = nI ln) (hln : ln ≤ 60) (hch : ∀ j, j < ln → S 12 j = nI (ch j) ∧ ch j < 65536) (h11 : S 0 11 = nI 0) (h : r1o ln ch false 0 8 = some 3) (hi : hIn ln ch (0 + 1) 48 57 = true) (hc : hIs ln ch (rNs ln ch 2 (ch (0 + 1) - 48) (0 + 1 + 1)).2 58 = true) : XW M_X6_readRule (d + 6) 0 [(0, .ref m)] [] (xWith g m (rdS S false 0)) (xMR g m S ln (rAll ln ch)) := by
  unfold rAll rHd
  rw [if_pos (rHd_x h)]
  have h1 := (r1o_is h).1
  rw [if_pos hi, if_pos hc]
  dsimp only
  have hpi := (of_decide_eq_true hi).1
  have hNl := rNs_le (n := ln) (ch := ch) 2 (ch (0 + 1) - 48) (0 + 1 + 1) (by omega)
  have hc1 := (of_decide_eq_true hc).1
  refine xw_aload_n (pc := 0) dX6_readRule_0 0 rfl ?_
  refine xw_aload_n (pc := 1) dX6_readRule_1 0 rfl ?_
  refine xw_ldcwS (i := 8) (pc := 2) dX6_readRule_2 rfl ?_
  refine xw_callV (pc := 5) (xr_V (as := [_]) ok_X6_oneOf rfl (by decide) q2681 q2683 qs83 (by rw [xtag_with, hM.1]; rfl) (by rw [xtag_with, hM.1]; rfl) dX6_readRule_5 rfl rfl (Nat.le_of_ble_eq_true rfl)) (SP_X6_oneOf_T (w := false) hM (i := 8) (by decide) hSC hl hln hch (Nat.zero_le _) h) ?_
  refine xm_putI (pc := 8) hM fd_X6_284 (xfin_of (by decide) (by decide +kernel)) dX6_readRule_8 ?_
  refine xw_aload_n (pc := 11) dX6_readRule_11 0 rfl ?_
  refine xw_iconst (v := -1) (pc := 12) dX6_readRule_12 (by decide +kernel) ?_
  refine xm_putI (pc := 13) hM fd_X6_287 (xfin_of (by decide) (by decide +kernel)) dX6_readRule_13 ?_
  refine xw_aload_n (pc := 16) dX6_readRule_16 0 rfl ?_
  refine xm_getN (k := 3) (pc := 17) hM fd_X6_284 dX6_readRule_17 (by first | rfl | (simp [mset, mcpy]; done)) ?_
  refine xw_iconst (v := nI 3) (pc := 20) dX6_readRule_20 rfl ?_
  refine xw_icmp_ne (pc := 21) 43 dX6_readRule_21 rfl (fun hb => absurd hb (by decide)) (fun _ => ?_)
  refine xw_aload_n (pc := 24) dX6_readRule_24 0 rfl ?_
  refine xw_iconst (v := -1) (pc := 25) dX6_readRule_25 (by decide +kernel) ?_
  refine xm_putI (pc := 26) hM fd_X6_284 (xfin_of (by decide) (by decide +kernel)) dX6_readRule_26 ?_
  rw [rdS_m (Or.inr ⟨by decide, by decide⟩), rdS_m (Or.inr ⟨by decide, by decide⟩), rdS_m (Or.inr ⟨by decide, by decide⟩)]
  refine xw_aload_n (pc := 29) dX6_readRule_29 0 rfl ?_
  refine xw_aload_n (pc := 30) dX6_readRule_30 0 rfl ?_
  refine xw_callV (pc := 31) (xr_V (as := []) ok_X6_number rfl (by decide) q2686 q2688 qs84 (by rw [xtag_with, hM.1]; rfl) (by rw [xtag_with, hM.1]; rfl) dX6_readRule_31 rfl rfl (Nat.le_of_ble_eq_true rfl)) (SP_X6_number_T (w := false) hM (show (mset (mset (mset S 0 26 (nI 3)) 0 27 (-1)) 0 26 (-1)) 0 22 = nI ln from ((mAl.st (j := 26) (v := (-1)) (mAl.st (j := 27) (v := (-1)) (mAl.st (j := 26) (v := (nI 3)) mAl.rf (by decide)) (by decide)) (by decide))).l hl) hln (show ∀ j, j < ln → (mset (mset (mset S 0 26 (nI 3)) 0 27 (-1)) 0 26 (-1)) 12 j = nI (ch j) ∧ ch j < 65536 from ((mAl.st (j := 26) (v := (-1)) (mAl.st (j := 27) (v := (-1)) (mAl.st (j := 26) (v := (nI 3)) mAl.rf (by decide)) (by decide)) (by decide))).c hch) (by omega) hi) ?_
  refine xm_putI (pc := 34) hM fd_X6_287 (xfin_of (by decide) (by decide +kernel)) dX6_readRule_34 ?_
  rw [rdS_m (Or.inr ⟨by decide, by decide⟩)]
  refine xw_aload_n (pc := 37) dX6_readRule_37 0 rfl ?_
  refine xw_bipush (v := nI 58) (pc := 38) dX6_readRule_38 (by decide +kernel) ?_
  refine xw_callU (pc := 40) (xr_V (as := [_]) ok_X6_sign rfl (by decide) q2698 q2700 qs87 (by rw [xtag_with, hM.1]; rfl) (by rw [xtag_with, hM.1]; rfl) dX6_readRule_40 rfl rfl (Nat.le_of_ble_eq_true rfl)) (SP_X6_sign_T (w := false) (c := 58) hM (by decide) (show (mset (mset (mset (mset S 0 26 (nI 3)) 0 27 (-1)) 0 26 (-1)) 0 27 (nI (rNs ln ch 2 (ch (0 + 1) - 48) (0 + 1 + 1)).1)) 0 22 = nI ln from ((mAl.st (j := 27) (v := (nI (rNs ln ch 2 (ch (0 + 1) - 48) (0 + 1 + 1)).1)) (mAl.st (j := 26) (v := (-1)) (mAl.st (j := 27) (v := (-1)) (mAl.st (j := 26) (v := (nI 3)) mAl.rf (by decide)) (by decide)) (by decide)) (by decide))).l hl) hln (show ∀ j, j < ln → (mset (mset (mset (mset S 0 26 (nI 3)) 0 27 (-1)) 0 26 (-1)) 0 27 (nI (rNs ln ch 2 (ch (0 + 1) - 48) (0 + 1 + 1)).1)) 12 j = nI (ch j) ∧ ch j < 65536 from ((mAl.st (j := 27) (v := (nI (rNs ln ch 2 (ch (0 + 1) - 48) (0 + 1 + 1)).1)) (mAl.st (j := 26) (v := (-1)) (mAl.st (j := 27) (v := (-1)) (mAl.st (j := 26) (v := (nI 3)) mAl.rf (by decide)) (by decide)) (by decide)) (by decide))).c hch) hNl.2 hc) ?_
  exact (rn_43 (e := none) (o := some (rNs ln ch 2 (ch (0 + 1) - 48) (0 + 1 + 1)).1) hM hSC (show (mset (mset (mset (mset S 0 26 (nI 3)) 0 27 (-1)) 0 26 (-1)) 0 27 (nI (rNs ln ch 2 (ch (0 + 1) - 48) (0 + 1 + 1)).1)) 0 22 = nI ln from ((mAl.st (j := 27) (v := (nI (rNs ln ch 2 (ch (0 + 1) - 48) (0 + 1 + 1)).1)) (mAl.st (j := 26) (v := (-1)) (mAl.st (j := 27) (v := (-1)) (mAl.st (j := 26) (v := (nI 3)) mAl.rf (by decide)) (by decide)) (by decide)) (by decide))).l hl) hln (show ∀ j, j < ln → (mset (mset (mset (mset S 0 26 (nI 3)) 0 27 (-1)) 0 26 (-1)) 0 27 (nI (rNs ln ch 2 (ch (0 + 1) - 48) (0 + 1 + 1)).1)) 12 j = nI (ch j) ∧ ch j < 65536 from ((mAl.st (j := 27) (v := (nI (rNs ln ch 2 (ch (0 + 1) - 48) (0 + 1 + 1)).1)) (mAl.st (j := 26) (v := (-1)) (mAl.st (j := 27) (v := (-1)) (mAl.st (j := 26) (v := (nI 3)) mAl.rf (by decide)) (by decide)) (by decide)) (by decide))).c hch) (by omega) rfl rfl h11).mono (fun _ _ h9 _ => h9.al (mAl.st (j := 27) (v := (nI (rNs ln ch 2 (ch (0 + 1) - 48) (0 + 1 + 1)).1)) (mAl.st (j := 26) (v := (-1)) (mAl.st (j := 27) (v := (-1)) (mAl.st (j := 26) (v := (nI 3)) mAl.rf (by decide)) (by decide)) (by decide)) (by decide)))
theorem SP_X6_readRule {d : Nat} {g : xG} {m : Nat} {S : xMS} (hM : xMod g m) (hSC : xSC g) {ln : Nat} {ch : Nat → Nat} (hl : S 0 22 = nI ln) (hln : ln ≤ 60) (hch : ∀ j, j < ln → S 12 j = nI (ch j) ∧ ch j < 65536) (h11 : S 0 11 = nI 0) : XM M_X6_readRule (d + 6) [.ref m] (xWith g m (rdS S false 0)) (xMR g m S ln (rAll ln ch)) := by
  refine xm_of (by decide +kernel) (Nat.le_of_ble_eq_true rfl) ?_
  show XW _ _ 0 [(0, _)] [] _ _
  cases h : r1o ln ch false 0 8 with
  | none => exact rr_N hM hSC hl hln hch h11 h
  | some k =>
    by_cases hk : k < 3
    · exact rr_K hM hSC hl hln hch h11 h hk
    · have hk3 : k = 3 := by have := (r1o_is h).2.1; omega
      subst hk3
      by_cases hi : hIn ln ch (0 + 1) 48 57 = true
      · by_cases hc : hIs ln ch (rNs ln ch 2 (ch (0 + 1) - 48) (0 + 1 + 1)).2 58 = true
        · exact rr_3C hM hSC hl hln hch h11 h hi hc
        · exact rr_3c hM hSC hl hln hch h11 h hi (Bool.eq_false_iff.mpr hc)
      · exact rr_3F hM hSC hl hln hch h11 h (Bool.eq_false_iff.mpr hi)
