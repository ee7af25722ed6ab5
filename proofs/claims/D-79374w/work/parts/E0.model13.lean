/-! MODEL 13: the reference reads -/
set_option maxRecDepth 100000
/-- the reference that reads: wrong or not, the place -/
def rdS (S : xMS) (w : Bool) (p : Nat) : xMS := mset (mset S 0 24 (bI w)) 0 23 (nI p)
theorem rdS_p {S : xMS} {w : Bool} {p q : Nat} : mset (rdS S w p) 0 23 (nI q) = rdS S w q := by
  unfold rdS mset
  funext a j
  by_cases h : a = 0 ∧ j = 23
  · simp [h]
  · simp [h]
theorem rdS_w {S : xMS} {w v : Bool} {p : Nat} : mset (rdS S w p) 0 24 (bI v) = rdS S v p := by
  unfold rdS mset
  funext a j
  by_cases h : a = 0 ∧ j = 24
  · obtain ⟨rfl, rfl⟩ := h
    simp
  · by_cases h2 : a = 0 ∧ j = 23
    · simp [h2]
    · simp [h, h2]
theorem rdS_w1 {S : xMS} {w : Bool} {p : Nat} : mset (rdS S w p) 0 24 (nI 1) = rdS S true p := rdS_w (v := true)
theorem rdS_w0 {S : xMS} {w : Bool} {p : Nat} : mset (rdS S w p) 0 24 (nI 0) = rdS S false p := rdS_w (v := false)
theorem rdS_q {S : xMS} {w : Bool} {p a : Nat} (h : a ≠ 0) : rdS S w p a = S a := by
  unfold rdS
  rw [mset_q h, mset_q h]
theorem rdS_0 {S : xMS} {w : Bool} {p j : Nat} (h3 : j ≠ 23) (h4 : j ≠ 24) : rdS S w p 0 j = S 0 j := by
  unfold rdS mset
  rw [if_neg (fun e => h3 e.2), if_neg (fun e => h4 e.2)]
theorem xblk {g : xG} {m a : Nat} (hM : xMod g m) (h : xtag g a = 20 ∨ xtag g a = 103) : ¬ (m ≤ a ∧ a < m + 14) := by
  intro ⟨h1, h2⟩
  obtain ⟨p, rfl⟩ : ∃ p, a = m + p := ⟨a - m, by omega⟩
  have hp : p = 0 ∨ p = 1 ∨ p = 2 ∨ p = 3 ∨ p = 4 ∨ p = 5 ∨ p = 6 ∨ p = 7 ∨ p = 8 ∨ p = 9 ∨ p = 10 ∨ p = 11 ∨ p = 12 ∨ p = 13 := by omega
  rcases hp with rfl | rfl | rfl | rfl | rfl | rfl | rfl | rfl | rfl | rfl | rfl | rfl | rfl | rfl
  · rw [Nat.add_zero, hM.1] at h; omega
  · rw [(hM.2.2 1 _ rfl).2.1] at h; simp at h
  · rw [(hM.2.2 2 _ rfl).2.1] at h; simp at h
  · rw [(hM.2.2 3 _ rfl).2.1] at h; simp at h
  · rw [(hM.2.2 4 _ rfl).2.1] at h; simp at h
  · rw [(hM.2.2 5 _ rfl).2.1] at h; simp at h
  · rw [(hM.2.2 6 _ rfl).2.1] at h; simp at h
  · rw [(hM.2.2 7 _ rfl).2.1] at h; simp at h
  · rw [(hM.2.2 8 _ rfl).2.1] at h; simp at h
  · rw [(hM.2.2 9 _ rfl).2.1] at h; simp at h
  · rw [(hM.2.2 10 _ rfl).2.1] at h; simp at h
  · rw [(hM.2.2 11 _ rfl).2.1] at h; simp at h
  · rw [(hM.2.2 12 _ rfl).2.1] at h; simp at h
  · rw [(hM.2.2 13 _ rfl).2.1] at h; simp at h
theorem xSC.with {g : xG} {m : Nat} {S : xMS} (hM : xMod g m) (h : xSC g) : xSC (xWith g m S) := by
  intro j hj
  obtain ⟨sv, ⟨a1, a2, a3, a4, a5, a6⟩, h2, h3⟩ := h j hj
  have e1 : xc (xWith g m S) ((xE g).2.2.1 (10 + j)) = xc g ((xE g).2.2.1 (10 + j)) := xc_withN (xblk hM (Or.inl a1))
  have e2 : xc (xWith g m S) sv = xc g sv := xc_withN (xblk hM (Or.inr a4))
  exact ⟨sv, ⟨(congrArg (fun z : xCell => z.1) e1).trans a1, (congrArg (fun z : xCell => z.2.2.2.2.1 0) e1).trans a2, (xi_of e1 1).trans a3, (congrArg (fun z : xCell => z.1) e2).trans a4, (congrArg (fun z : xCell => z.2.2.1) e2).trans a5, fun j hj => ⟨(a6 j hj).1, (xi_of e2 j).trans (a6 j hj).2⟩⟩, (congrArg (fun z : xCell => z.2.1) e1).trans h2, (congrArg (fun z : xCell => z.2.1) e2).trans h3⟩

theorem SP_X6_isHere_w {d : Nat} {g : xG} {m : Nat} {S : xMS} (hM : xMod g m) {a b : Nat} (ha : a < 65536) (hb : b < 65536) {ln p : Nat} {ch : Nat → Nat} (hl : S 0 22 = nI ln) (hln : ln ≤ 60) (hch : ∀ j, j < ln → S 12 j = nI (ch j) ∧ ch j < 65536) (hp : p ≤ ln) : XM M_X6_isHere (d + 1) [.ref m, .int (nI a), .int (nI b)] (xWith g m (rdS S true p)) (xOne (some (.int (bI (false)))) (xWith g m (rdS S true p))) := by
  have hcs : ∀ j, j < ln → ch j < 65536 := fun j hj => (hch j hj).2
  have hci : ∀ j, j < ln → ∀ w q, rdS S w q 12 j = nI (ch j) := fun j hj w q => by rw [rdS_q (by decide)]; exact (hch j hj).1
  refine xm_of (by decide +kernel) (Nat.le_of_ble_eq_true rfl) ?_
  show XW _ _ 0 [(0, _), (1, _), (2, _)] [] _ _
  refine xw_aload_n (pc := 0) dX6_isHere_0 0 rfl ?_
  refine xm_getB (b := true) (pc := 1) hM fd_X6_255 dX6_isHere_1 (by rfl) ?_
  refine xw_if_ne (pc := 4) 39 dX6_isHere_4 rfl (fun _ => ?_) (fun hb => absurd hb (by decide))
  refine xw_iconst (v := nI 0) (pc := 39) dX6_isHere_39 rfl ?_
  refine xw_iret (pc := 40) .boolean dX6_isHere_40 rfl ?_ 
  exact ⟨rfl, rfl⟩
theorem SP_X6_isHere_n {d : Nat} {g : xG} {m : Nat} {S : xMS} (hM : xMod g m) {a b : Nat} (ha : a < 65536) (hb : b < 65536) {ln p : Nat} {ch : Nat → Nat} (hl : S 0 22 = nI ln) (hln : ln ≤ 60) (hch : ∀ j, j < ln → S 12 j = nI (ch j) ∧ ch j < 65536) (hp : p ≤ ln) (h : ¬ p < ln) : XM M_X6_isHere (d + 1) [.ref m, .int (nI a), .int (nI b)] (xWith g m (rdS S false p)) (xOne (some (.int (bI (false)))) (xWith g m (rdS S false p))) := by
  have hcs : ∀ j, j < ln → ch j < 65536 := fun j hj => (hch j hj).2
  have hci : ∀ j, j < ln → ∀ w q, rdS S w q 12 j = nI (ch j) := fun j hj w q => by rw [rdS_q (by decide)]; exact (hch j hj).1
  refine xm_of (by decide +kernel) (Nat.le_of_ble_eq_true rfl) ?_
  show XW _ _ 0 [(0, _), (1, _), (2, _)] [] _ _
  refine xw_aload_n (pc := 0) dX6_isHere_0 0 rfl ?_
  refine xm_getB (b := false) (pc := 1) hM fd_X6_255 dX6_isHere_1 (by rfl) ?_
  refine xw_if_ne (pc := 4) 39 dX6_isHere_4 rfl (fun hb => absurd hb (by decide)) (fun _ => ?_)
  refine xw_aload_n (pc := 7) dX6_isHere_7 0 rfl ?_
  refine xm_getN (k := p) (pc := 8) hM fd_X6_259 dX6_isHere_8 (by rfl) ?_
  refine xw_aload_n (pc := 11) dX6_isHere_11 0 rfl ?_
  refine xm_getN (k := ln) (pc := 12) hM fd_X6_252 dX6_isHere_12 (by exact (rdS_0 (by decide) (by decide)).trans hl) ?_
  refine xw_icmp_ge (pc := 15) 39 dX6_isHere_15 rfl (fun hb15 => ?_) (fun hb15 => ?_)
  rotate_left
  · exfalso
    replace hb15 : ¬ (ln ≤ p) := mt (nI_leI (a := ln) (b := p) (by omega) (by omega)).mpr hb15
    omega
  replace hb15 : ln ≤ p := (nI_leI (a := ln) (b := p) (by omega) (by omega)).mp hb15
  refine xw_iconst (v := nI 0) (pc := 39) dX6_isHere_39 rfl ?_
  refine xw_iret (pc := 40) .boolean dX6_isHere_40 rfl ?_ 
  exact ⟨rfl, rfl⟩
theorem SP_X6_isHere_y {d : Nat} {g : xG} {m : Nat} {S : xMS} (hM : xMod g m) {a b : Nat} (ha : a < 65536) (hb : b < 65536) {ln p : Nat} {ch : Nat → Nat} (hl : S 0 22 = nI ln) (hln : ln ≤ 60) (hch : ∀ j, j < ln → S 12 j = nI (ch j) ∧ ch j < 65536) (hp : p ≤ ln) (h : p < ln) : XM M_X6_isHere (d + 1) [.ref m, .int (nI a), .int (nI b)] (xWith g m (rdS S false p)) (xOne (some (.int (bI (hIn ln ch p a b)))) (xWith g m (rdS S false p))) := by
  have hcs : ∀ j, j < ln → ch j < 65536 := fun j hj => (hch j hj).2
  have hci : ∀ j, j < ln → ∀ w q, rdS S w q 12 j = nI (ch j) := fun j hj w q => by rw [rdS_q (by decide)]; exact (hch j hj).1
  have hqq : hIn ln ch p a b = inR (nI (ch p)) (nI a) (nI b) := by rw [← hrV_in ha hb hcs, hrV_t h]
  refine xm_of (by decide +kernel) (Nat.le_of_ble_eq_true rfl) ?_
  show XW _ _ 0 [(0, _), (1, _), (2, _)] [] _ _
  refine xw_aload_n (pc := 0) dX6_isHere_0 0 rfl ?_
  refine xm_getB (b := false) (pc := 1) hM fd_X6_255 dX6_isHere_1 (by rfl) ?_
  refine xw_if_ne (pc := 4) 39 dX6_isHere_4 rfl (fun hb => absurd hb (by decide)) (fun _ => ?_)
  refine xw_aload_n (pc := 7) dX6_isHere_7 0 rfl ?_
  refine xm_getN (k := p) (pc := 8) hM fd_X6_259 dX6_isHere_8 (by rfl) ?_
  refine xw_aload_n (pc := 11) dX6_isHere_11 0 rfl ?_
  refine xm_getN (k := ln) (pc := 12) hM fd_X6_252 dX6_isHere_12 (by exact (rdS_0 (by decide) (by decide)).trans hl) ?_
  refine xw_icmp_ge (pc := 15) 39 dX6_isHere_15 rfl (fun hb15 => ?_) (fun hb15 => ?_)
  · exfalso
    replace hb15 : ln ≤ p := (nI_leI (a := ln) (b := p) (by omega) (by omega)).mp hb15
    omega
  replace hb15 : ¬ (ln ≤ p) := mt (nI_leI (a := ln) (b := p) (by omega) (by omega)).mpr hb15
  refine xw_aload_n (pc := 18) dX6_isHere_18 0 rfl ?_
  refine xm_get (p := 12) (pc := 19) hM fd_X6_52 dX6_isHere_19 rfl ?_
  refine xw_aload_n (pc := 22) dX6_isHere_22 0 rfl ?_
  refine xm_getN (k := p) (pc := 23) hM fd_X6_259 dX6_isHere_23 (by rfl) ?_
  refine xm_cald (pc := 26) hM dX6_isHere_26 rfl (by omega) ?_
  rw [hci p h _ _]
  refine xw_iload_n (pc := 27) dX6_isHere_27 1 rfl ?_
  refine xw_iload_n (pc := 28) dX6_isHere_28 2 rfl ?_
  refine xw_callV (pc := 29) (xr_S (as := [_, _, _]) ok_X6_in rfl (by decide) q2364 q2365 dX6_isHere_29 rfl rfl (Nat.le_of_ble_eq_true rfl)) (SP_X6_in) ?_
  refine xw_if_eq (pc := 32) 39 dX6_isHere_32 rfl (fun hb32 => ?_) (fun hb32 => ?_)
  · replace hb32 := bI_0.mp hb32
    refine xw_iconst (v := nI 0) (pc := 39) dX6_isHere_39 rfl ?_
    refine xw_iret (pc := 40) .boolean dX6_isHere_40 rfl ?_ 
    rw [hqq, hb32]
    exact ⟨rfl, rfl⟩
  · replace hb32 := bI_n0.mp hb32
    refine xw_iconst (v := nI 1) (pc := 35) dX6_isHere_35 rfl ?_
    refine xw_goto (pc := 36) 40 dX6_isHere_36 rfl ?_
    refine xw_iret (pc := 40) .boolean dX6_isHere_40 rfl ?_ 
    rw [hqq, hb32]
    exact ⟨rfl, rfl⟩
theorem SP_X6_isHere {d : Nat} {g : xG} {m : Nat} {S : xMS} (hM : xMod g m) {w : Bool} {a b : Nat} (ha : a < 65536) (hb : b < 65536) {ln p : Nat} {ch : Nat → Nat} (hl : S 0 22 = nI ln) (hln : ln ≤ 60) (hch : ∀ j, j < ln → S 12 j = nI (ch j) ∧ ch j < 65536) (hp : p ≤ ln) : XM M_X6_isHere (d + 1) [.ref m, .int (nI a), .int (nI b)] (xWith g m (rdS S w p)) (xOne (some (.int (bI (!w && hIn ln ch p a b)))) (xWith g m (rdS S w p))) := by
  cases w
  · by_cases h : p < ln
    · exact SP_X6_isHere_y hM ha hb hl hln hch hp h
    · rw [show hIn ln ch p a b = false from decide_eq_false (fun e => h e.1)]
      exact SP_X6_isHere_n hM ha hb hl hln hch hp h
  · exact SP_X6_isHere_w hM ha hb hl hln hch hp
theorem SP_X6_digit_F {d : Nat} {g : xG} {m : Nat} {S : xMS} (hM : xMod g m) {w : Bool} {ln p : Nat} {ch : Nat → Nat} (hl : S 0 22 = nI ln) (hln : ln ≤ 60) (hch : ∀ j, j < ln → S 12 j = nI (ch j) ∧ ch j < 65536) (hp : p ≤ ln) (h : (!w && hIn ln ch p 48 57) = false) : XM M_X6_digit (d + 2) [.ref m] (xWith g m (rdS S w p)) (xOne (some (.int (nI 0))) (xWith g m (rdS S true p))) := by
  have hcs : ∀ j, j < ln → ch j < 65536 := fun j hj => (hch j hj).2
  have hci : ∀ j, j < ln → ∀ w q, rdS S w q 12 j = nI (ch j) := fun j hj w q => by rw [rdS_q (by decide)]; exact (hch j hj).1
  refine xm_of (by decide +kernel) (Nat.le_of_ble_eq_true rfl) ?_
  show XW _ _ 0 [(0, _)] [] _ _
  refine xw_aload_n (pc := 0) dX6_digit_0 0 rfl ?_
  refine xw_aload_n (pc := 1) dX6_digit_1 0 rfl ?_
  refine xw_bipush (v := nI 48) (pc := 2) dX6_digit_2 (by decide +kernel) ?_
  refine xw_bipush (v := nI 57) (pc := 4) dX6_digit_4 (by decide +kernel) ?_
  refine xw_callV (pc := 6) (xr_V (as := [_, _]) ok_X6_isHere rfl (by decide) q2694 q2696 qs86 (by rw [xtag_with, hM.1]; rfl) (by rw [xtag_with, hM.1]; rfl) dX6_digit_6 rfl rfl (Nat.le_of_ble_eq_true rfl)) ((show XM M_X6_isHere (d + 1) [.ref m, .int (nI 48), .int (nI 57)] (xWith g m (rdS S w p)) (xOne (some (.int (bI false))) (xWith g m (rdS S w p))) from h ▸ SP_X6_isHere hM (by decide) (by decide) hl hln hch hp)) ?_
  refine xw_if_ne (pc := 9) 16 dX6_digit_9 rfl (fun hb => absurd hb (by decide)) (fun _ => ?_)
  refine xw_iconst (v := nI 1) (pc := 12) dX6_digit_12 rfl ?_
  refine xw_goto (pc := 13) 17 dX6_digit_13 rfl ?_
  refine xm_putI (pc := 17) hM fd_X6_255 (xfin_of (by decide) (by decide +kernel)) dX6_digit_17 ?_
  refine xw_aload_n (pc := 20) dX6_digit_20 0 rfl ?_
  refine xm_getN (k := 1) (pc := 21) hM fd_X6_255 dX6_digit_21 (by first | rfl | (simp [mset, mcpy]; done)) ?_
  refine xw_if_eq (pc := 24) 29 dX6_digit_24 rfl (fun hb => absurd hb (by decide)) (fun _ => ?_)
  refine xw_iconst (v := nI 0) (pc := 27) dX6_digit_27 rfl ?_
  refine xw_iret (pc := 28) .int dX6_digit_28 rfl ?_ 
  rw [show mset (rdS S w p) 0 24 (nI 1) = rdS S true p from rdS_w1]
  exact ⟨rfl, rfl⟩
theorem SP_X6_digit_T {d : Nat} {g : xG} {m : Nat} {S : xMS} (hM : xMod g m) {w : Bool} {ln p : Nat} {ch : Nat → Nat} (hl : S 0 22 = nI ln) (hln : ln ≤ 60) (hch : ∀ j, j < ln → S 12 j = nI (ch j) ∧ ch j < 65536) (hp : p ≤ ln) (h : (!w && hIn ln ch p 48 57) = true) : XM M_X6_digit (d + 2) [.ref m] (xWith g m (rdS S w p)) (xOne (some (.int (nI (ch p - 48)))) (xWith g m (rdS S false (p + 1)))) := by
  have hcs : ∀ j, j < ln → ch j < 65536 := fun j hj => (hch j hj).2
  have hci : ∀ j, j < ln → ∀ w q, rdS S w q 12 j = nI (ch j) := fun j hj w q => by rw [rdS_q (by decide)]; exact (hch j hj).1
  have hI : hIn ln ch p 48 57 = true := by
    cases w
    · exact h
    · cases h
  have hq := of_decide_eq_true hI
  refine xm_of (by decide +kernel) (Nat.le_of_ble_eq_true rfl) ?_
  show XW _ _ 0 [(0, _)] [] _ _
  refine xw_aload_n (pc := 0) dX6_digit_0 0 rfl ?_
  refine xw_aload_n (pc := 1) dX6_digit_1 0 rfl ?_
  refine xw_bipush (v := nI 48) (pc := 2) dX6_digit_2 (by decide +kernel) ?_
  refine xw_bipush (v := nI 57) (pc := 4) dX6_digit_4 (by decide +kernel) ?_
  refine xw_callV (pc := 6) (xr_V (as := [_, _]) ok_X6_isHere rfl (by decide) q2694 q2696 qs86 (by rw [xtag_with, hM.1]; rfl) (by rw [xtag_with, hM.1]; rfl) dX6_digit_6 rfl rfl (Nat.le_of_ble_eq_true rfl)) ((show XM M_X6_isHere (d + 1) [.ref m, .int (nI 48), .int (nI 57)] (xWith g m (rdS S w p)) (xOne (some (.int (bI true))) (xWith g m (rdS S w p))) from h ▸ SP_X6_isHere hM (by decide) (by decide) hl hln hch hp)) ?_
  refine xw_if_ne (pc := 9) 16 dX6_digit_9 rfl (fun _ => ?_) (fun hb => absurd hb (by decide))
  refine xw_iconst (v := nI 0) (pc := 16) dX6_digit_16 rfl ?_
  refine xm_putI (pc := 17) hM fd_X6_255 (xfin_of (by decide) (by decide +kernel)) dX6_digit_17 ?_
  refine xw_aload_n (pc := 20) dX6_digit_20 0 rfl ?_
  refine xm_getN (k := 0) (pc := 21) hM fd_X6_255 dX6_digit_21 (by first | rfl | (simp [mset, mcpy]; done)) ?_
  refine xw_if_eq (pc := 24) 29 dX6_digit_24 rfl (fun _ => ?_) (fun hb => absurd hb (by decide))
  refine xw_aload_n (pc := 29) dX6_digit_29 0 rfl ?_
  refine xw_dup (pc := 30) dX6_digit_30 rfl ?_
  refine xm_getN (k := p) (pc := 31) hM fd_X6_259 dX6_digit_31 (by rfl) ?_
  refine xw_iconst (v := nI 1) (pc := 34) dX6_digit_34 rfl ?_
  refine xn_iadd (pc := 35) dX6_digit_35 ?_
  refine xm_putI (pc := 36) hM fd_X6_259 (xfin_of (by decide) (by decide +kernel)) dX6_digit_36 ?_
  refine xw_aload_n (pc := 39) dX6_digit_39 0 rfl ?_
  refine xm_get (p := 12) (pc := 40) hM fd_X6_52 dX6_digit_40 rfl ?_
  refine xw_aload_n (pc := 43) dX6_digit_43 0 rfl ?_
  refine xm_getN (k := (p + 1)) (pc := 44) hM fd_X6_259 dX6_digit_44 (by first | rfl | (simp [mset, mcpy]; done)) ?_
  refine xw_iconst (v := nI 1) (pc := 47) dX6_digit_47 rfl ?_
  refine xn_isub (pc := 48) dX6_digit_48 (by omega) ?_
  refine xm_cald (pc := 49) hM dX6_digit_49 rfl (by omega) ?_
  rw [show mset (mset (rdS S w p) 0 24 (nI 0)) 0 23 (nI (p + 1)) 12 (p + 1 - 1) = nI (ch p) from hci p hq.1 false (p + 1)]
  refine xw_bipush (v := nI 48) (pc := 50) dX6_digit_50 (by decide +kernel) ?_
  refine xn_isub (pc := 52) dX6_digit_52 (by omega) ?_
  refine xw_iret (pc := 53) .int dX6_digit_53 rfl ?_ 
  rw [show mset (mset (rdS S w p) 0 24 (nI 0)) 0 23 (nI (p + 1)) = rdS S false (p + 1) from by rw [show mset (rdS S w p) 0 24 (nI 0) = rdS S false p from rdS_w0, rdS_p]]
  exact ⟨rfl, rfl⟩
theorem SP_X6_sign_F {d : Nat} {g : xG} {m : Nat} {S : xMS} (hM : xMod g m) {w : Bool} {c : Nat} (hc : c < 65536) {ln p : Nat} {ch : Nat → Nat} (hl : S 0 22 = nI ln) (hln : ln ≤ 60) (hch : ∀ j, j < ln → S 12 j = nI (ch j) ∧ ch j < 65536) (hp : p ≤ ln) (h : (!w && hIs ln ch p c) = false) : XM M_X6_sign (d + 2) [.ref m, .int (nI c)] (xWith g m (rdS S w p)) (xOne none (xWith g m (rdS S true p))) := by
  have hcs : ∀ j, j < ln → ch j < 65536 := fun j hj => (hch j hj).2
  have hci : ∀ j, j < ln → ∀ w q, rdS S w q 12 j = nI (ch j) := fun j hj w q => by rw [rdS_q (by decide)]; exact (hch j hj).1
  have hcc : hIn ln ch p c c = hIs ln ch p c := by
    unfold hIn hIs
    congr 1
    exact propext ⟨fun e => ⟨e.1, by omega⟩, fun e => ⟨e.1, by omega, by omega⟩⟩
  have h9 := h
  rw [← hcc] at h9
  refine xm_of (by decide +kernel) (Nat.le_of_ble_eq_true rfl) ?_
  show XW _ _ 0 [(0, _), (1, _)] [] _ _
  refine xw_aload_n (pc := 0) dX6_sign_0 0 rfl ?_
  refine xw_aload_n (pc := 1) dX6_sign_1 0 rfl ?_
  refine xw_iload_n (pc := 2) dX6_sign_2 1 rfl ?_
  refine xw_iload_n (pc := 3) dX6_sign_3 1 rfl ?_
  refine xw_callV (pc := 4) (xr_V (as := [_, _]) ok_X6_isHere rfl (by decide) q2694 q2696 qs86 (by rw [xtag_with, hM.1]; rfl) (by rw [xtag_with, hM.1]; rfl) dX6_sign_4 rfl rfl (Nat.le_of_ble_eq_true rfl)) ((show XM M_X6_isHere (d + 1) [.ref m, .int (nI c), .int (nI c)] (xWith g m (rdS S w p)) (xOne (some (.int (bI false))) (xWith g m (rdS S w p))) from h9 ▸ SP_X6_isHere hM hc hc hl hln hch hp)) ?_
  refine xw_if_ne (pc := 7) 14 dX6_sign_7 rfl (fun hb => absurd hb (by decide)) (fun _ => ?_)
  refine xw_iconst (v := nI 1) (pc := 10) dX6_sign_10 rfl ?_
  refine xw_goto (pc := 11) 15 dX6_sign_11 rfl ?_
  refine xm_putI (pc := 15) hM fd_X6_255 (xfin_of (by decide) (by decide +kernel)) dX6_sign_15 ?_
  refine xw_aload_n (pc := 18) dX6_sign_18 0 rfl ?_
  refine xw_dup (pc := 19) dX6_sign_19 rfl ?_
  refine xm_getN (k := p) (pc := 20) hM fd_X6_259 dX6_sign_20 (by rfl) ?_
  refine xw_aload_n (pc := 23) dX6_sign_23 0 rfl ?_
  refine xm_getN (k := 1) (pc := 24) hM fd_X6_255 dX6_sign_24 (by first | rfl | (simp [mset, mcpy]; done)) ?_
  refine xw_if_eq (pc := 27) 34 dX6_sign_27 rfl (fun hb => absurd hb (by decide)) (fun _ => ?_)
  refine xw_iconst (v := nI 0) (pc := 30) dX6_sign_30 rfl ?_
  refine xw_goto (pc := 31) 35 dX6_sign_31 rfl ?_
  refine xn_iadd (pc := 35) dX6_sign_35 ?_
  refine xm_putI (pc := 36) hM fd_X6_259 (xfin_of (by decide) (by decide +kernel)) dX6_sign_36 ?_
  refine xw_vret (pc := 39) dX6_sign_39 rfl ?_
  rw [show mset (mset (rdS S w p) 0 24 (nI 1)) 0 23 (nI (p + 0)) = rdS S true p from by rw [show mset (rdS S w p) 0 24 (nI 1) = rdS S true p from rdS_w1, rdS_p]; rfl]
  exact ⟨rfl, rfl⟩
theorem SP_X6_sign_T {d : Nat} {g : xG} {m : Nat} {S : xMS} (hM : xMod g m) {w : Bool} {c : Nat} (hc : c < 65536) {ln p : Nat} {ch : Nat → Nat} (hl : S 0 22 = nI ln) (hln : ln ≤ 60) (hch : ∀ j, j < ln → S 12 j = nI (ch j) ∧ ch j < 65536) (hp : p ≤ ln) (h : (!w && hIs ln ch p c) = true) : XM M_X6_sign (d + 2) [.ref m, .int (nI c)] (xWith g m (rdS S w p)) (xOne none (xWith g m (rdS S false (p + 1)))) := by
  have hcs : ∀ j, j < ln → ch j < 65536 := fun j hj => (hch j hj).2
  have hci : ∀ j, j < ln → ∀ w q, rdS S w q 12 j = nI (ch j) := fun j hj w q => by rw [rdS_q (by decide)]; exact (hch j hj).1
  have hcc : hIn ln ch p c c = hIs ln ch p c := by
    unfold hIn hIs
    congr 1
    exact propext ⟨fun e => ⟨e.1, by omega⟩, fun e => ⟨e.1, by omega, by omega⟩⟩
  have h9 := h
  rw [← hcc] at h9
  refine xm_of (by decide +kernel) (Nat.le_of_ble_eq_true rfl) ?_
  show XW _ _ 0 [(0, _), (1, _)] [] _ _
  refine xw_aload_n (pc := 0) dX6_sign_0 0 rfl ?_
  refine xw_aload_n (pc := 1) dX6_sign_1 0 rfl ?_
  refine xw_iload_n (pc := 2) dX6_sign_2 1 rfl ?_
  refine xw_iload_n (pc := 3) dX6_sign_3 1 rfl ?_
  refine xw_callV (pc := 4) (xr_V (as := [_, _]) ok_X6_isHere rfl (by decide) q2694 q2696 qs86 (by rw [xtag_with, hM.1]; rfl) (by rw [xtag_with, hM.1]; rfl) dX6_sign_4 rfl rfl (Nat.le_of_ble_eq_true rfl)) ((show XM M_X6_isHere (d + 1) [.ref m, .int (nI c), .int (nI c)] (xWith g m (rdS S w p)) (xOne (some (.int (bI true))) (xWith g m (rdS S w p))) from h9 ▸ SP_X6_isHere hM hc hc hl hln hch hp)) ?_
  refine xw_if_ne (pc := 7) 14 dX6_sign_7 rfl (fun _ => ?_) (fun hb => absurd hb (by decide))
  refine xw_iconst (v := nI 0) (pc := 14) dX6_sign_14 rfl ?_
  refine xm_putI (pc := 15) hM fd_X6_255 (xfin_of (by decide) (by decide +kernel)) dX6_sign_15 ?_
  refine xw_aload_n (pc := 18) dX6_sign_18 0 rfl ?_
  refine xw_dup (pc := 19) dX6_sign_19 rfl ?_
  refine xm_getN (k := p) (pc := 20) hM fd_X6_259 dX6_sign_20 (by rfl) ?_
  refine xw_aload_n (pc := 23) dX6_sign_23 0 rfl ?_
  refine xm_getN (k := 0) (pc := 24) hM fd_X6_255 dX6_sign_24 (by first | rfl | (simp [mset, mcpy]; done)) ?_
  refine xw_if_eq (pc := 27) 34 dX6_sign_27 rfl (fun _ => ?_) (fun hb => absurd hb (by decide))
  refine xw_iconst (v := nI 1) (pc := 34) dX6_sign_34 rfl ?_
  refine xn_iadd (pc := 35) dX6_sign_35 ?_
  refine xm_putI (pc := 36) hM fd_X6_259 (xfin_of (by decide) (by decide +kernel)) dX6_sign_36 ?_
  refine xw_vret (pc := 39) dX6_sign_39 rfl ?_
  rw [show mset (mset (rdS S w p) 0 24 (nI 0)) 0 23 (nI (p + 1)) = rdS S false (p + 1) from by rw [show mset (rdS S w p) 0 24 (nI 0) = rdS S false p from rdS_w0, rdS_p]]
  exact ⟨rfl, rfl⟩
