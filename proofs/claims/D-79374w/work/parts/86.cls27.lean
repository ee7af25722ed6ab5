/-! CLASS 27: asked of cases, 2 -/
set_option maxRecDepth 100000
/-- thrown anew, out of a heap by a law -/
def xThF (F : xG → Prop) (t : Nat) (rs : Option Value ⊕ Nat) (g' : xG) : Prop := ∃ g1, F g1 ∧ rs = .inr (xsz g1) ∧ g' = xExc g1 t
theorem SP_X1_isInT {d : Nat} {g : xG} {v lo hi : Int32} (h : inR v lo hi = true) : XM M_X1_isIn d [.int v, .int lo, .int hi] g (xOne (some (.int (bI true))) g) := h ▸ SP_X1_isIn
theorem SP_X1_isInF {d : Nat} {g : xG} {v lo hi : Int32} (h : ¬ inR v lo hi = true) : XM M_X1_isIn d [.int v, .int lo, .int hi] g (xOne (some (.int (bI false))) g) := (Bool.eq_false_iff.mpr h) ▸ SP_X1_isIn
theorem SP_X1_chain_F {d : Nat} {g : xG} {x p lk fa ka la n rr ww : Nat} {Z : xAd} {S : xMS} (hM : xMn g x p lk fa ka la Z S n rr ww) {k : Nat} {day feats : Int32} (hk : k < n) (hcs : isCs day feats = true) {e : Int32} (he : ¬ inR e (-1) (nI (chn (S 1) (cov (S 1) (-1) k day feats) (hld (isPa (S 1)) rr (cov (S 1) (-1) k day feats)) rr).length - nI 1) = true) : XM M_X1_chain (d + 71) [.ref x, .int (nI k), .int day, .int feats, .int e] g (xThF (fun g' => xCs g' x lk fa ka la p Z (S 1) n rr ww k day feats (-1) (hld (isPa (S 1)) rr (cov (S 1) (-1) k day feats)) ∧ xFr (oEq 6) 0 g g') 25) := by
  refine xm_of (by decide +kernel) (Nat.le_of_ble_eq_true rfl) ?_
  show XW _ _ 0 [(0, _), (1, _), (2, _), (3, _), (4, _)] [] _ _
  refine xw_aload_n (pc := 0) dX1_chain_0 0 rfl ?_
  refine xw_iload_n (pc := 1) dX1_chain_1 1 rfl ?_
  refine xw_iload_n (pc := 2) dX1_chain_2 2 rfl ?_
  refine xw_iload_n (pc := 3) dX1_chain_3 3 rfl ?_
  refine xw_callF (pc := 4) (xr_V (as := [_, _, _]) ok_X1_looked rfl (by decide) q1512 q1514 qs26 (by rw [hM.tx]; rfl) (by rw [hM.tx]; rfl) dX1_chain_4 rfl rfl (Nat.le_of_ble_eq_true rfl)) (SP_X1_looked hM.tx hM.ox hM.xp hM.P hM.l3 hM.B hk hcs) ?_
  intro g4 hc4 hm4
  refine xw_astore (l' := [(5, _), (0, _), (1, _), (2, _), (3, _), (4, _)]) (pc := 7) dX1_chain_7 (by decide) rfl ?_
  refine xw_aload (pc := 9) dX1_chain_9 0 rfl ?_
  refine xw_callF (pc := 11) (xr_V (as := []) ok_X5_chain rfl (by decide) q1558 q873 q874 (by first | (rw [hc11.1.lt]; rfl) | (rw [hc4.1.lt]; rfl)) (by first | (rw [hc11.1.lt]; rfl) | (rw [hc4.1.lt]; rfl)) dX1_chain_11 rfl rfl (Nat.le_of_ble_eq_true rfl)) (SP_X5_chain (d := d + 6) hc4.1) ?_
  intro g11 hc11 hm11
  have F11 := (hc4.2.tr hc11.2.1).sub (fun _ h => h) (Nat.le_refl _)
  have hl5 := hc11.2.2.1
  refine xw_istore (l' := [(6, _), (5, _), (0, _), (1, _), (2, _), (3, _), (4, _)]) (pc := 14) dX1_chain_14 (by decide) rfl ?_
  refine xw_iload (pc := 16) dX1_chain_16 6 rfl ?_
  refine xw_iconst (v := -1) (pc := 18) dX1_chain_18 (by decide +kernel) ?_
  refine xw_iload (pc := 19) dX1_chain_19 0 rfl ?_
  refine xw_iconst (v := nI 1) (pc := 21) dX1_chain_21 rfl ?_
  refine xw_isub (pc := 22) dX1_chain_22 ?_
  refine xw_callV (pc := 23) (xr_S (as := [_, _, _]) ok_X1_isIn rfl (by decide) q1180 q784 dX1_chain_23 rfl rfl (Nat.le_of_ble_eq_true rfl)) (SP_X1_isInF he) ?_
  refine xw_callX (pc := 26) (xr_S (as := [_]) ok_X1_checkElement rfl (by decide) q1495 q1496 dX1_chain_26 rfl rfl (Nat.le_of_ble_eq_true rfl)) (SP_X1_checkElement_F) ?_
  exact xx_out0 rfl (by rw [xExc_tag]; decide) (by rw [xExc_tag]; decide) (by rw [xExc_own]; decide) ⟨_, ⟨hc11.1, F11⟩, rfl, rfl⟩

theorem inR_m1x {n : Nat} (hn : n < 1000) : inR (-1) (-1) (nI n - nI 1) = true := by
  by_cases h : n = 0
  · subst h; decide
  · rw [nI_sub (by omega)]
    unfold inR
    rw [decide_eq_false (Int32.lt_irrefl), decide_eq_false (fun z => m1lt (n := n - 1) (by omega) (Int32.lt_trans z neg1lt))]
    rfl
theorem inR_i {n i : Nat} (hn : n < 1000) (hi : i < n) : inR (nI i) (-1) (nI n - nI 1) = true := by
  rw [nI_sub (by omega)]
  unfold inR
  rw [decide_eq_false (fun z => m1lt (n := i) (by omega) (Int32.lt_trans z neg1lt)), decide_eq_false (fun z => by have := (nI_ltI (a := n - 1) (b := i) (by omega) (by omega)).mp z; omega)]
  rfl
theorem SP_X1_chain_N {d : Nat} {g : xG} {x p lk fa ka la n rr ww : Nat} {Z : xAd} {S : xMS} (hM : xMn g x p lk fa ka la Z S n rr ww) {k : Nat} {day feats : Int32} (hk : k < n) (hcs : isCs day feats = true) : XM M_X1_chain (d + 71) [.ref x, .int (nI k), .int day, .int feats, .int (-1)] g (xVal (.int (nI (chn (S 1) (cov (S 1) (-1) k day feats) (hld (isPa (S 1)) rr (cov (S 1) (-1) k day feats)) rr).length)) (fun g' => xCs g' x lk fa ka la p Z (S 1) n rr ww k day feats (-1) (hld (isPa (S 1)) rr (cov (S 1) (-1) k day feats)) ∧ xFr (oEq 6) 0 g g')) := by
  refine xm_of (by decide +kernel) (Nat.le_of_ble_eq_true rfl) ?_
  show XW _ _ 0 [(0, _), (1, _), (2, _), (3, _), (4, _)] [] _ _
  refine xw_aload_n (pc := 0) dX1_chain_0 0 rfl ?_
  refine xw_iload_n (pc := 1) dX1_chain_1 1 rfl ?_
  refine xw_iload_n (pc := 2) dX1_chain_2 2 rfl ?_
  refine xw_iload_n (pc := 3) dX1_chain_3 3 rfl ?_
  refine xw_callF (pc := 4) (xr_V (as := [_, _, _]) ok_X1_looked rfl (by decide) q1512 q1514 qs26 (by rw [hM.tx]; rfl) (by rw [hM.tx]; rfl) dX1_chain_4 rfl rfl (Nat.le_of_ble_eq_true rfl)) (SP_X1_looked hM.tx hM.ox hM.xp hM.P hM.l3 hM.B hk hcs) ?_
  intro g4 hc4 hm4
  refine xw_astore (l' := [(5, _), (0, _), (1, _), (2, _), (3, _), (4, _)]) (pc := 7) dX1_chain_7 (by decide) rfl ?_
  refine xw_aload (pc := 9) dX1_chain_9 0 rfl ?_
  refine xw_callF (pc := 11) (xr_V (as := []) ok_X5_chain rfl (by decide) q1558 q873 q874 (by first | (rw [hc11.1.lt]; rfl) | (rw [hc4.1.lt]; rfl)) (by first | (rw [hc11.1.lt]; rfl) | (rw [hc4.1.lt]; rfl)) dX1_chain_11 rfl rfl (Nat.le_of_ble_eq_true rfl)) (SP_X5_chain (d := d + 6) hc4.1) ?_
  intro g11 hc11 hm11
  have F11 := (hc4.2.tr hc11.2.1).sub (fun _ h => h) (Nat.le_refl _)
  have hl5 := hc11.2.2.1
  refine xw_istore (l' := [(6, _), (5, _), (0, _), (1, _), (2, _), (3, _), (4, _)]) (pc := 14) dX1_chain_14 (by decide) rfl ?_
  refine xw_iload (pc := 16) dX1_chain_16 6 rfl ?_
  refine xw_iconst (v := -1) (pc := 18) dX1_chain_18 (by decide +kernel) ?_
  refine xw_iload (pc := 19) dX1_chain_19 0 rfl ?_
  refine xw_iconst (v := nI 1) (pc := 21) dX1_chain_21 rfl ?_
  refine xw_isub (pc := 22) dX1_chain_22 ?_
  refine xw_callV (pc := 23) (xr_S (as := [_, _, _]) ok_X1_isIn rfl (by decide) q1180 q784 dX1_chain_23 rfl rfl (Nat.le_of_ble_eq_true rfl)) (SP_X1_isInT (inR_m1x (by omega))) ?_
  refine xw_callU (pc := 26) (xr_S (as := [_]) ok_X1_checkElement rfl (by decide) q1495 q1496 dX1_chain_26 rfl rfl (Nat.le_of_ble_eq_true rfl)) (SP_X1_checkElement_T) ?_
  refine xw_iload (pc := 29) dX1_chain_29 6 rfl ?_
  refine xw_iconst (v := -1) (pc := 31) dX1_chain_31 (by decide +kernel) ?_
  refine xw_icmp_ne (pc := 32) 40 dX1_chain_32 rfl (fun hb32 => ?_) (fun hb32 => ?_)
  · exfalso
    exact hb32 rfl
  refine xw_iload (pc := 35) dX1_chain_35 0 rfl ?_
  refine xw_goto (pc := 37) 47 dX1_chain_37 rfl ?_
  refine xw_iret (pc := 47) .int dX1_chain_47 rfl ?_ 
  exact ⟨rfl, hc11.1, F11⟩

theorem SP_X1_chain_I {d : Nat} {g : xG} {x p lk fa ka la n rr ww : Nat} {Z : xAd} {S : xMS} (hM : xMn g x p lk fa ka la Z S n rr ww) {k : Nat} {day feats : Int32} (hk : k < n) (hcs : isCs day feats = true) {j : Nat} (hj : j < (chn (S 1) (cov (S 1) (-1) k day feats) (hld (isPa (S 1)) rr (cov (S 1) (-1) k day feats)) rr).length) : XM M_X1_chain (d + 71) [.ref x, .int (nI k), .int day, .int feats, .int (nI j)] g (xVal (.int (nI ((chn (S 1) (cov (S 1) (-1) k day feats) (hld (isPa (S 1)) rr (cov (S 1) (-1) k day feats)) rr).getD j 0))) (fun g' => xCs g' x lk fa ka la p Z (S 1) n rr ww k day feats (-1) (hld (isPa (S 1)) rr (cov (S 1) (-1) k day feats)) ∧ xFr (oEq 6) 0 g g')) := by
  refine xm_of (by decide +kernel) (Nat.le_of_ble_eq_true rfl) ?_
  show XW _ _ 0 [(0, _), (1, _), (2, _), (3, _), (4, _)] [] _ _
  refine xw_aload_n (pc := 0) dX1_chain_0 0 rfl ?_
  refine xw_iload_n (pc := 1) dX1_chain_1 1 rfl ?_
  refine xw_iload_n (pc := 2) dX1_chain_2 2 rfl ?_
  refine xw_iload_n (pc := 3) dX1_chain_3 3 rfl ?_
  refine xw_callF (pc := 4) (xr_V (as := [_, _, _]) ok_X1_looked rfl (by decide) q1512 q1514 qs26 (by rw [hM.tx]; rfl) (by rw [hM.tx]; rfl) dX1_chain_4 rfl rfl (Nat.le_of_ble_eq_true rfl)) (SP_X1_looked hM.tx hM.ox hM.xp hM.P hM.l3 hM.B hk hcs) ?_
  intro g4 hc4 hm4
  refine xw_astore (l' := [(5, _), (0, _), (1, _), (2, _), (3, _), (4, _)]) (pc := 7) dX1_chain_7 (by decide) rfl ?_
  refine xw_aload (pc := 9) dX1_chain_9 0 rfl ?_
  refine xw_callF (pc := 11) (xr_V (as := []) ok_X5_chain rfl (by decide) q1558 q873 q874 (by first | (rw [hc11.1.lt]; rfl) | (rw [hc4.1.lt]; rfl)) (by first | (rw [hc11.1.lt]; rfl) | (rw [hc4.1.lt]; rfl)) dX1_chain_11 rfl rfl (Nat.le_of_ble_eq_true rfl)) (SP_X5_chain (d := d + 6) hc4.1) ?_
  intro g11 hc11 hm11
  have F11 := (hc4.2.tr hc11.2.1).sub (fun _ h => h) (Nat.le_refl _)
  have hl5 := hc11.2.2.1
  refine xw_istore (l' := [(6, _), (5, _), (0, _), (1, _), (2, _), (3, _), (4, _)]) (pc := 14) dX1_chain_14 (by decide) rfl ?_
  refine xw_iload (pc := 16) dX1_chain_16 6 rfl ?_
  refine xw_iconst (v := -1) (pc := 18) dX1_chain_18 (by decide +kernel) ?_
  refine xw_iload (pc := 19) dX1_chain_19 0 rfl ?_
  refine xw_iconst (v := nI 1) (pc := 21) dX1_chain_21 rfl ?_
  refine xw_isub (pc := 22) dX1_chain_22 ?_
  refine xw_callV (pc := 23) (xr_S (as := [_, _, _]) ok_X1_isIn rfl (by decide) q1180 q784 dX1_chain_23 rfl rfl (Nat.le_of_ble_eq_true rfl)) (SP_X1_isInT (inR_i (by omega) hj)) ?_
  refine xw_callU (pc := 26) (xr_S (as := [_]) ok_X1_checkElement rfl (by decide) q1495 q1496 dX1_chain_26 rfl rfl (Nat.le_of_ble_eq_true rfl)) (SP_X1_checkElement_T) ?_
  refine xw_iload (pc := 29) dX1_chain_29 6 rfl ?_
  refine xw_iconst (v := -1) (pc := 31) dX1_chain_31 (by decide +kernel) ?_
  refine xw_icmp_ne (pc := 32) 40 dX1_chain_32 rfl (fun hb32 => ?_) (fun hb32 => ?_)
  rotate_left
  · exfalso
    have h9 := m1lt (n := j) (by omega); rw [hb32] at h9; exact h9 neg1lt
  refine xw_aload (pc := 40) dX1_chain_40 1 rfl ?_
  refine xw_iload (pc := 42) dX1_chain_42 6 rfl ?_
  refine xw_callV (pc := 44) (xr_V (as := [_]) ok_X5_link rfl (by decide) q1559 q1560 q1561 (by first | (rw [hc11.1.lt]; rfl) | (rw [hc4.1.lt]; rfl)) (by first | (rw [hc11.1.lt]; rfl) | (rw [hc4.1.lt]; rfl)) dX1_chain_44 rfl rfl (Nat.le_of_ble_eq_true rfl)) (SP_X5_link hc11.1.lt hc11.1.l5 hc11.1.lat (by rw [hc11.1.lal]; omega) hc11.1.lal) ?_
  refine xw_iret (pc := 47) .int dX1_chain_47 rfl ?_ 
  exact ⟨congrArg (fun z => Sum.inl (some (Value.int z))) (hc11.2.2.2 j hj), hc11.1, F11⟩

theorem SP_X1_rival_F {d : Nat} {g : xG} {x p lk fa ka la n rr ww : Nat} {Z : xAd} {S : xMS} (hM : xMn g x p lk fa ka la Z S n rr ww) {k : Nat} {day feats : Int32} (hk : k < n) (hcs : isCs day feats = true) {e : Int32} (he : ¬ inR e (-1) (nI (cntB (rivP (S 1) (hld (isPa (S 1)) rr (cov (S 1) (-1) k day feats)) rr) rr) - nI 1) = true) : XM M_X1_rival (d + 71) [.ref x, .int (nI k), .int day, .int feats, .int e] g (xThF (fun g' => xCs g' x lk fa ka la p Z (S 1) n rr ww k day feats (-1) (hld (isPa (S 1)) rr (cov (S 1) (-1) k day feats)) ∧ xFr (oEq 6) 0 g g') 25) := by
  refine xm_of (by decide +kernel) (Nat.le_of_ble_eq_true rfl) ?_
  show XW _ _ 0 [(0, _), (1, _), (2, _), (3, _), (4, _)] [] _ _
  refine xw_aload_n (pc := 0) dX1_rival_0 0 rfl ?_
  refine xw_iload_n (pc := 1) dX1_rival_1 1 rfl ?_
  refine xw_iload_n (pc := 2) dX1_rival_2 2 rfl ?_
  refine xw_iload_n (pc := 3) dX1_rival_3 3 rfl ?_
  refine xw_callF (pc := 4) (xr_V (as := [_, _, _]) ok_X1_looked rfl (by decide) q1512 q1514 qs26 (by rw [hM.tx]; rfl) (by rw [hM.tx]; rfl) dX1_rival_4 rfl rfl (Nat.le_of_ble_eq_true rfl)) (SP_X1_looked hM.tx hM.ox hM.xp hM.P hM.l3 hM.B hk hcs) ?_
  intro g4 hc4 hm4
  refine xw_callF (pc := 7) (xr_V (as := []) ok_X5_rivals rfl (by decide) q1570 q1571 q1572 (by first | (rw [hc7.1.lt]; rfl) | (rw [hc4.1.lt]; rfl)) (by first | (rw [hc7.1.lt]; rfl) | (rw [hc4.1.lt]; rfl)) dX1_rival_7 rfl rfl (Nat.le_of_ble_eq_true rfl)) (SP_X5_rivals (d := d + 23) hc4.1 (hM.cn.fr hc4.2 (by unfold oEq; omega))) ?_
  intro g7 hc7 hm7
  have r16 := hM.P.wf.r16
  have F11 := (hc4.2.tr (hc7.2.fr hc4.1.kao6)).sub (fun _ h => h) (Nat.le_refl _)
  rw [bset_bNG rr (by omega)]
  have hcl := cntB_le (rivP (S 1) (hld (isPa (S 1)) rr (cov (S 1) (-1) k day feats)) rr) rr
  have hbl : bN (rivP (S 1) (hld (isPa (S 1)) rr (cov (S 1) (-1) k day feats)) rr) rr < 2 ^ 16 := Nat.lt_of_lt_of_le bN_lt (Nat.pow_le_pow_right (by decide) (by omega))
  have hmn := SP_X1_many (d := d + 70) (g := g7) (bN (rivP (S 1) (hld (isPa (S 1)) rr (cov (S 1) (-1) k day feats)) rr) rr) (by omega)
  rw [pcN_bNG] at hmn
  refine xw_istore (l' := [(5, _), (0, _), (1, _), (2, _), (3, _), (4, _)]) (pc := 10) dX1_rival_10 (by decide) rfl ?_
  refine xw_iload (pc := 12) dX1_rival_12 0 rfl ?_
  refine xw_callV (pc := 14) (xr_S (as := [_]) ok_X1_many rfl (by decide) q1578 q1579 dX1_rival_14 rfl rfl (Nat.le_of_ble_eq_true rfl)) (hmn) ?_
  refine xw_istore (l' := [(6, _), (5, _), (0, _), (1, _), (2, _), (3, _), (4, _)]) (pc := 17) dX1_rival_17 (by decide) rfl ?_
  refine xw_iload (pc := 19) dX1_rival_19 6 rfl ?_
  refine xw_iconst (v := -1) (pc := 21) dX1_rival_21 (by decide +kernel) ?_
  refine xw_iload (pc := 22) dX1_rival_22 0 rfl ?_
  refine xw_iconst (v := nI 1) (pc := 24) dX1_rival_24 rfl ?_
  refine xw_isub (pc := 25) dX1_rival_25 ?_
  refine xw_callV (pc := 26) (xr_S (as := [_, _, _]) ok_X1_isIn rfl (by decide) q1180 q784 dX1_rival_26 rfl rfl (Nat.le_of_ble_eq_true rfl)) (SP_X1_isInF he) ?_
  refine xw_callX (pc := 29) (xr_S (as := [_]) ok_X1_checkElement rfl (by decide) q1495 q1496 dX1_rival_29 rfl rfl (Nat.le_of_ble_eq_true rfl)) (SP_X1_checkElement_F) ?_
  exact xx_out0 rfl (by rw [xExc_tag]; decide) (by rw [xExc_tag]; decide) (by rw [xExc_own]; decide) ⟨_, ⟨hc7.1, F11⟩, rfl, rfl⟩

theorem SP_X1_rival_N {d : Nat} {g : xG} {x p lk fa ka la n rr ww : Nat} {Z : xAd} {S : xMS} (hM : xMn g x p lk fa ka la Z S n rr ww) {k : Nat} {day feats : Int32} (hk : k < n) (hcs : isCs day feats = true) : XM M_X1_rival (d + 71) [.ref x, .int (nI k), .int day, .int feats, .int (-1)] g (xVal (.int (nI (cntB (rivP (S 1) (hld (isPa (S 1)) rr (cov (S 1) (-1) k day feats)) rr) rr))) (fun g' => xCs g' x lk fa ka la p Z (S 1) n rr ww k day feats (-1) (hld (isPa (S 1)) rr (cov (S 1) (-1) k day feats)) ∧ xFr (oEq 6) 0 g g')) := by
  refine xm_of (by decide +kernel) (Nat.le_of_ble_eq_true rfl) ?_
  show XW _ _ 0 [(0, _), (1, _), (2, _), (3, _), (4, _)] [] _ _
  refine xw_aload_n (pc := 0) dX1_rival_0 0 rfl ?_
  refine xw_iload_n (pc := 1) dX1_rival_1 1 rfl ?_
  refine xw_iload_n (pc := 2) dX1_rival_2 2 rfl ?_
  refine xw_iload_n (pc := 3) dX1_rival_3 3 rfl ?_
  refine xw_callF (pc := 4) (xr_V (as := [_, _, _]) ok_X1_looked rfl (by decide) q1512 q1514 qs26 (by rw [hM.tx]; rfl) (by rw [hM.tx]; rfl) dX1_rival_4 rfl rfl (Nat.le_of_ble_eq_true rfl)) (SP_X1_looked hM.tx hM.ox hM.xp hM.P hM.l3 hM.B hk hcs) ?_
  intro g4 hc4 hm4
  refine xw_callF (pc := 7) (xr_V (as := []) ok_X5_rivals rfl (by decide) q1570 q1571 q1572 (by first | (rw [hc7.1.lt]; rfl) | (rw [hc4.1.lt]; rfl)) (by first | (rw [hc7.1.lt]; rfl) | (rw [hc4.1.lt]; rfl)) dX1_rival_7 rfl rfl (Nat.le_of_ble_eq_true rfl)) (SP_X5_rivals (d := d + 23) hc4.1 (hM.cn.fr hc4.2 (by unfold oEq; omega))) ?_
  intro g7 hc7 hm7
  have r16 := hM.P.wf.r16
  have F11 := (hc4.2.tr (hc7.2.fr hc4.1.kao6)).sub (fun _ h => h) (Nat.le_refl _)
  rw [bset_bNG rr (by omega)]
  have hcl := cntB_le (rivP (S 1) (hld (isPa (S 1)) rr (cov (S 1) (-1) k day feats)) rr) rr
  have hbl : bN (rivP (S 1) (hld (isPa (S 1)) rr (cov (S 1) (-1) k day feats)) rr) rr < 2 ^ 16 := Nat.lt_of_lt_of_le bN_lt (Nat.pow_le_pow_right (by decide) (by omega))
  have hmn := SP_X1_many (d := d + 70) (g := g7) (bN (rivP (S 1) (hld (isPa (S 1)) rr (cov (S 1) (-1) k day feats)) rr) rr) (by omega)
  rw [pcN_bNG] at hmn
  refine xw_istore (l' := [(5, _), (0, _), (1, _), (2, _), (3, _), (4, _)]) (pc := 10) dX1_rival_10 (by decide) rfl ?_
  refine xw_iload (pc := 12) dX1_rival_12 0 rfl ?_
  refine xw_callV (pc := 14) (xr_S (as := [_]) ok_X1_many rfl (by decide) q1578 q1579 dX1_rival_14 rfl rfl (Nat.le_of_ble_eq_true rfl)) (hmn) ?_
  refine xw_istore (l' := [(6, _), (5, _), (0, _), (1, _), (2, _), (3, _), (4, _)]) (pc := 17) dX1_rival_17 (by decide) rfl ?_
  refine xw_iload (pc := 19) dX1_rival_19 6 rfl ?_
  refine xw_iconst (v := -1) (pc := 21) dX1_rival_21 (by decide +kernel) ?_
  refine xw_iload (pc := 22) dX1_rival_22 0 rfl ?_
  refine xw_iconst (v := nI 1) (pc := 24) dX1_rival_24 rfl ?_
  refine xw_isub (pc := 25) dX1_rival_25 ?_
  refine xw_callV (pc := 26) (xr_S (as := [_, _, _]) ok_X1_isIn rfl (by decide) q1180 q784 dX1_rival_26 rfl rfl (Nat.le_of_ble_eq_true rfl)) (SP_X1_isInT (inR_m1x (by omega))) ?_
  refine xw_callU (pc := 29) (xr_S (as := [_]) ok_X1_checkElement rfl (by decide) q1495 q1496 dX1_rival_29 rfl rfl (Nat.le_of_ble_eq_true rfl)) (SP_X1_checkElement_T) ?_
  refine xw_iload (pc := 32) dX1_rival_32 6 rfl ?_
  refine xw_iconst (v := -1) (pc := 34) dX1_rival_34 (by decide +kernel) ?_
  refine xw_icmp_ne (pc := 35) 43 dX1_rival_35 rfl (fun hb35 => ?_) (fun hb35 => ?_)
  · exfalso
    exact hb35 rfl
  refine xw_iload (pc := 38) dX1_rival_38 0 rfl ?_
  refine xw_goto (pc := 40) 50 dX1_rival_40 rfl ?_
  refine xw_iret (pc := 50) .int dX1_rival_50 rfl ?_ 
  exact ⟨rfl, hc7.1, F11⟩

theorem SP_X1_rival_I {d : Nat} {g : xG} {x p lk fa ka la n rr ww : Nat} {Z : xAd} {S : xMS} (hM : xMn g x p lk fa ka la Z S n rr ww) {k : Nat} {day feats : Int32} (hk : k < n) (hcs : isCs day feats = true) {j t : Nat} (hj : j < cntB (rivP (S 1) (hld (isPa (S 1)) rr (cov (S 1) (-1) k day feats)) rr) rr) (ht : rvK (rivP (S 1) (hld (isPa (S 1)) rr (cov (S 1) (-1) k day feats)) rr) (nI j) rr 0 0 = some t) : XM M_X1_rival (d + 71) [.ref x, .int (nI k), .int day, .int feats, .int (nI j)] g (xVal (.int (nI t)) (fun g' => xCs g' x lk fa ka la p Z (S 1) n rr ww k day feats (-1) (hld (isPa (S 1)) rr (cov (S 1) (-1) k day feats)) ∧ xFr (oEq 6) 0 g g')) := by
  refine xm_of (by decide +kernel) (Nat.le_of_ble_eq_true rfl) ?_
  show XW _ _ 0 [(0, _), (1, _), (2, _), (3, _), (4, _)] [] _ _
  refine xw_aload_n (pc := 0) dX1_rival_0 0 rfl ?_
  refine xw_iload_n (pc := 1) dX1_rival_1 1 rfl ?_
  refine xw_iload_n (pc := 2) dX1_rival_2 2 rfl ?_
  refine xw_iload_n (pc := 3) dX1_rival_3 3 rfl ?_
  refine xw_callF (pc := 4) (xr_V (as := [_, _, _]) ok_X1_looked rfl (by decide) q1512 q1514 qs26 (by rw [hM.tx]; rfl) (by rw [hM.tx]; rfl) dX1_rival_4 rfl rfl (Nat.le_of_ble_eq_true rfl)) (SP_X1_looked hM.tx hM.ox hM.xp hM.P hM.l3 hM.B hk hcs) ?_
  intro g4 hc4 hm4
  refine xw_callF (pc := 7) (xr_V (as := []) ok_X5_rivals rfl (by decide) q1570 q1571 q1572 (by first | (rw [hc7.1.lt]; rfl) | (rw [hc4.1.lt]; rfl)) (by first | (rw [hc7.1.lt]; rfl) | (rw [hc4.1.lt]; rfl)) dX1_rival_7 rfl rfl (Nat.le_of_ble_eq_true rfl)) (SP_X5_rivals (d := d + 23) hc4.1 (hM.cn.fr hc4.2 (by unfold oEq; omega))) ?_
  intro g7 hc7 hm7
  have r16 := hM.P.wf.r16
  have F11 := (hc4.2.tr (hc7.2.fr hc4.1.kao6)).sub (fun _ h => h) (Nat.le_refl _)
  rw [bset_bNG rr (by omega)]
  have hcl := cntB_le (rivP (S 1) (hld (isPa (S 1)) rr (cov (S 1) (-1) k day feats)) rr) rr
  have hbl : bN (rivP (S 1) (hld (isPa (S 1)) rr (cov (S 1) (-1) k day feats)) rr) rr < 2 ^ 16 := Nat.lt_of_lt_of_le bN_lt (Nat.pow_le_pow_right (by decide) (by omega))
  have hmn := SP_X1_many (d := d + 70) (g := g7) (bN (rivP (S 1) (hld (isPa (S 1)) rr (cov (S 1) (-1) k day feats)) rr) rr) (by omega)
  rw [pcN_bNG] at hmn
  refine xw_istore (l' := [(5, _), (0, _), (1, _), (2, _), (3, _), (4, _)]) (pc := 10) dX1_rival_10 (by decide) rfl ?_
  refine xw_iload (pc := 12) dX1_rival_12 0 rfl ?_
  refine xw_callV (pc := 14) (xr_S (as := [_]) ok_X1_many rfl (by decide) q1578 q1579 dX1_rival_14 rfl rfl (Nat.le_of_ble_eq_true rfl)) (hmn) ?_
  refine xw_istore (l' := [(6, _), (5, _), (0, _), (1, _), (2, _), (3, _), (4, _)]) (pc := 17) dX1_rival_17 (by decide) rfl ?_
  refine xw_iload (pc := 19) dX1_rival_19 6 rfl ?_
  refine xw_iconst (v := -1) (pc := 21) dX1_rival_21 (by decide +kernel) ?_
  refine xw_iload (pc := 22) dX1_rival_22 0 rfl ?_
  refine xw_iconst (v := nI 1) (pc := 24) dX1_rival_24 rfl ?_
  refine xw_isub (pc := 25) dX1_rival_25 ?_
  refine xw_callV (pc := 26) (xr_S (as := [_, _, _]) ok_X1_isIn rfl (by decide) q1180 q784 dX1_rival_26 rfl rfl (Nat.le_of_ble_eq_true rfl)) (SP_X1_isInT (inR_i (by omega) hj)) ?_
  refine xw_callU (pc := 29) (xr_S (as := [_]) ok_X1_checkElement rfl (by decide) q1495 q1496 dX1_rival_29 rfl rfl (Nat.le_of_ble_eq_true rfl)) (SP_X1_checkElement_T) ?_
  refine xw_iload (pc := 32) dX1_rival_32 6 rfl ?_
  refine xw_iconst (v := -1) (pc := 34) dX1_rival_34 (by decide +kernel) ?_
  refine xw_icmp_ne (pc := 35) 43 dX1_rival_35 rfl (fun hb35 => ?_) (fun hb35 => ?_)
  rotate_left
  · exfalso
    have h9 := m1lt (n := j) (by omega); rw [hb35] at h9; exact h9 neg1lt
  refine xw_iload (pc := 43) dX1_rival_43 1 rfl ?_
  refine xw_iload (pc := 45) dX1_rival_45 6 rfl ?_
  refine xw_callV (pc := 47) (xr_S (as := [_, _]) ok_X1_bitOf rfl (by decide) q1581 q1582 dX1_rival_47 rfl rfl (Nat.le_of_ble_eq_true rfl)) (SP_X1_bitOf (by omega) (by omega) ht) ?_
  refine xw_iret (pc := 50) .int dX1_rival_50 rfl ?_ 
  exact ⟨rfl, hc7.1, F11⟩

theorem oc_eff {g g' : xG} {s : Nat → Int32} {n rr ww k : Nat} {H : Nat → Bool} (hE : xCn g) (h : WFS s n rr ww) (hk : k < n) {H' : Nat → Bool} : (effO g (ocm s H rr k) = effO g (ocm s H' rr k)) ↔ ocm s H rr k = ocm s H' rr k :=
  ⟨fun e => effO_inj hE (Or.inr (ocm_e h hk)) (Or.inr (ocm_e h hk)) e, fun e => by rw [e]⟩
theorem lp_X1_nextChange {d : Nat} {g : xG} {x p lk fa ka la n rr ww : Nat} {Z : xAd} {S : xMS} (hM : xMn g x p lk fa ka la Z S n rr ww) {k : Nat} {feats now : Int32} {a1 a2 : Int32} (hk : k < n) (hnow : ∃ H', now = ocm (S 1) H' rr k) {c : Nat} (hnc : effO g now = some c) : ∀ (j t : Nat) (gi : xG) (dy : Int32), t + j = 1000 → xCs gi x lk fa ka la p Z (S 1) n rr ww k dy feats (-1) (hld (isPa (S 1)) rr (cov (S 1) (-1) k dy feats)) → xFr (oEq 6) 0 g gi → XW M_X1_nextChange (d + 71) 21 [(6, .int (nI t)), (5, .ref c), (4, .ref lk), (0, .ref x), (1, .int a1), (2, .int a2), (3, .int feats)] [] gi (fun rs g' => match nxD (oc (S 1) (-1) rr k feats) now j t with
    | some r => xVal (.int (nI r)) (fun g' => (∃ dy, xCs g' x lk fa ka la p Z (S 1) n rr ww k dy feats (-1) (hld (isPa (S 1)) rr (cov (S 1) (-1) k dy feats))) ∧ xFr (oEq 6) 0 g g') rs g'
    | none => xThF (fun g' => (∃ dy, xCs g' x lk fa ka la p Z (S 1) n rr ww k dy feats (-1) (hld (isPa (S 1)) rr (cov (S 1) (-1) k dy feats))) ∧ xFr (oEq 6) 0 g g') 25 rs g') := by
  intro j
  induction j with
  | zero =>
    intro t gi dy ht hX hF
    refine xw_iload (pc := 21) dX1_nextChange_21 0 rfl ?_
    refine xw_sipush (v := nI 1000) (pc := 23) dX1_nextChange_23 (by decide +kernel) ?_
    refine xw_icmp_ge (pc := 26) 50 dX1_nextChange_26 rfl (fun hb26 => ?_) (fun hb26 => ?_)
    rotate_left
    · exfalso
      replace hb26 : ¬ (1000 ≤ t) := mt (nI_leI (a := 1000) (b := t) (by omega) (by omega)).mpr hb26
      omega
    replace hb26 : 1000 ≤ t := (nI_leI (a := 1000) (b := t) (by omega) (by omega)).mp hb26
    refine xw_iload (pc := 50) dX1_nextChange_50 0 rfl ?_
    refine xw_sipush (v := nI 1000) (pc := 52) dX1_nextChange_52 (by decide +kernel) ?_
    refine xw_icmp_ge (pc := 55) 62 dX1_nextChange_55 rfl (fun hb55 => ?_) (fun hb55 => ?_)
    rotate_left
    · exfalso
      replace hb55 : ¬ (1000 ≤ t) := mt (nI_leI (a := 1000) (b := t) (by omega) (by omega)).mpr hb55
      omega
    replace hb55 : 1000 ≤ t := (nI_leI (a := 1000) (b := t) (by omega) (by omega)).mp hb55
    refine xw_iconst (v := nI 0) (pc := 62) dX1_nextChange_62 rfl ?_
    refine xw_callX (pc := 63) (xr_S (as := [_]) ok_X1_checkElement rfl (by decide) q1495 q1496 dX1_nextChange_63 rfl rfl (Nat.le_of_ble_eq_true rfl)) ((show XM M_X1_checkElement (d + 70) [.int (nI 0)] gi (xThr (xsz gi) (xExc gi 25)) from SP_X1_checkElement_F)) ?_
    exact xx_out0 rfl (by rw [xExc_tag]; decide) (by rw [xExc_tag]; decide) (by rw [xExc_own]; decide) ⟨_, ⟨⟨dy, hX⟩, hF⟩, rfl, rfl⟩
  | succ j ih =>
    intro t gi dy ht hX hF
    obtain ⟨H', rfl⟩ := hnow
    have hE := hM.cn
    have hst : nxD (oc (S 1) (-1) rr k feats) (ocm (S 1) H' rr k) (j + 1) t = if oc (S 1) (-1) rr k feats (nI t) = ocm (S 1) H' rr k then nxD (oc (S 1) (-1) rr k feats) (ocm (S 1) H' rr k) j (t + 1) else some t := rfl
    refine xw_iload (pc := 21) dX1_nextChange_21 0 rfl ?_
    refine xw_sipush (v := nI 1000) (pc := 23) dX1_nextChange_23 (by decide +kernel) ?_
    refine xw_icmp_ge (pc := 26) 50 dX1_nextChange_26 rfl (fun hb26 => ?_) (fun hb26 => ?_)
    · exfalso
      replace hb26 : 1000 ≤ t := (nI_leI (a := 1000) (b := t) (by omega) (by omega)).mp hb26
      omega
    replace hb26 : ¬ (1000 ≤ t) := mt (nI_leI (a := 1000) (b := t) (by omega) (by omega)).mpr hb26
    refine xw_aload (pc := 29) dX1_nextChange_29 2 rfl ?_
    refine xw_iload (pc := 31) dX1_nextChange_31 0 rfl ?_
    refine xw_callF (pc := 33) (xr_V (as := [_]) ok_X5_on rfl (by decide) q1592 q1593 q1594 (by first | (rw [hX.lt]; rfl) | (rw [hc33.1.lt]; rfl)) (by first | (rw [hX.lt]; rfl) | (rw [hc33.1.lt]; rfl)) dX1_nextChange_33 rfl rfl (Nat.le_of_ble_eq_true rfl)) (SP_X5_on (dy := nI t) hX) ?_
    intro g33 hc33 hm33
    refine xw_callF (pc := 36) (xr_V (as := []) ok_X5_outcome rfl (by decide) q746 q747 q748 (by first | (rw [hX.lt]; rfl) | (rw [hc33.1.lt]; rfl)) (by first | (rw [hX.lt]; rfl) | (rw [hc33.1.lt]; rfl)) dX1_nextChange_36 rfl rfl (Nat.le_of_ble_eq_true rfl)) (SP_X5_outcome (d := d + 23) hc33.1) ?_
    intro g36 hc36 hm36
    have F36 := (hF.tr (hc33.2.tr (hc36.2.fr hc33.1.kao6))).sub (fun _ h => h) (Nat.le_refl _)
    have ee : effO g33 (ocm (S 1) (hld (isPa (S 1)) rr (cov (S 1) (-1) k (nI t) feats)) rr k) = effO g (ocm (S 1) (hld (isPa (S 1)) rr (cov (S 1) (-1) k (nI t) feats)) rr k) := effO_fr ((hF.tr hc33.2).sub (fun _ h => h) (Nat.le_refl 0)) _
    rw [ee]
    refine xw_aload (pc := 39) dX1_nextChange_39 1 rfl ?_
    refine xw_acmp_ne (ry := (some c)) (rx := (effO g (ocm (S 1) (hld (isPa (S 1)) rr (cov (S 1) (-1) k (nI t) feats)) rr k))) (pc := 41) 50 dX1_nextChange_41 rfl (fun hb41 => ?_) (fun hb41 => ?_)
    · refine xw_iload (pc := 50) dX1_nextChange_50 0 rfl ?_
      refine xw_sipush (v := nI 1000) (pc := 52) dX1_nextChange_52 (by decide +kernel) ?_
      refine xw_icmp_ge (pc := 55) 62 dX1_nextChange_55 rfl (fun hb55 => ?_) (fun hb55 => ?_)
      · exfalso
        replace hb55 : 1000 ≤ t := (nI_leI (a := 1000) (b := t) (by omega) (by omega)).mp hb55
        omega
      replace hb55 : ¬ (1000 ≤ t) := mt (nI_leI (a := 1000) (b := t) (by omega) (by omega)).mpr hb55
      refine xw_iconst (v := nI 1) (pc := 58) dX1_nextChange_58 rfl ?_
      refine xw_goto (pc := 59) 63 dX1_nextChange_59 rfl ?_
      refine xw_callU (pc := 63) (xr_S (as := [_]) ok_X1_checkElement rfl (by decide) q1495 q1496 dX1_nextChange_63 rfl rfl (Nat.le_of_ble_eq_true rfl)) ((show XM M_X1_checkElement (d + 70) [.int (nI 1)] g36 (xOne none g36) from SP_X1_checkElement_T)) ?_
      refine xw_iload (pc := 66) dX1_nextChange_66 0 rfl ?_
      refine xw_iret (pc := 68) .int dX1_nextChange_68 rfl ?_ 
      rw [hst, if_neg (fun e => hb41 (by rw [← hnc, show ocm (S 1) (hld (isPa (S 1)) rr (cov (S 1) (-1) k (nI t) feats)) rr k = ocm (S 1) H' rr k from e]))]
      exact ⟨rfl, ⟨_, hc36.1⟩, F36⟩
    · refine xw_iinc (v := nI (t + 1)) (l' := [(6, _), (5, _), (4, _), (0, _), (1, _), (2, _), (3, _)]) (pc := 44) dX1_nextChange_44 0 rfl (nI_add _ 1) (by decide) rfl ?_
      refine xw_goto (pc := 47) 21 dX1_nextChange_47 rfl ?_
      rw [hst, if_pos (show oc (S 1) (-1) rr k feats (nI t) = ocm (S 1) H' rr k from (oc_eff (g' := g) hE hM.P.wf hk).mp (hb41.trans hnc.symm))]
      exact ih (t + 1) g36 (nI t) (by omega) hc36.1 F36
theorem SP_X1_nextChange {d : Nat} {g : xG} {x p lk fa ka la n rr ww : Nat} {Z : xAd} {S : xMS} (hM : xMn g x p lk fa ka la Z S n rr ww) {k dd : Nat} {feats : Int32} (hk : k < n) (hdd : dd ≤ 999) (hcs : isCs (nI dd) feats = true) : XM M_X1_nextChange (d + 71) [.ref x, .int (nI k), .int (nI dd), .int feats] g (fun rs g' => match nxD (oc (S 1) (-1) rr k feats) (oc (S 1) (-1) rr k feats (nI dd)) (999 - dd) (dd + 1) with | some r => xVal (.int (nI r)) (fun g' => (∃ dy, xCs g' x lk fa ka la p Z (S 1) n rr ww k dy feats (-1) (hld (isPa (S 1)) rr (cov (S 1) (-1) k dy feats))) ∧ xFr (oEq 6) 0 g g') rs g' | none => xThF (fun g' => (∃ dy, xCs g' x lk fa ka la p Z (S 1) n rr ww k dy feats (-1) (hld (isPa (S 1)) rr (cov (S 1) (-1) k dy feats))) ∧ xFr (oEq 6) 0 g g') 25 rs g') := by
  refine xm_of (by decide +kernel) (Nat.le_of_ble_eq_true rfl) ?_
  show XW _ _ 0 [(0, _), (1, _), (2, _), (3, _)] [] _ _
  refine xw_aload_n (pc := 0) dX1_nextChange_0 0 rfl ?_
  refine xw_iload_n (pc := 1) dX1_nextChange_1 1 rfl ?_
  refine xw_iload_n (pc := 2) dX1_nextChange_2 2 rfl ?_
  refine xw_iload_n (pc := 3) dX1_nextChange_3 3 rfl ?_
  refine xw_callF (pc := 4) (xr_V (as := [_, _, _]) ok_X1_looked rfl (by decide) q1512 q1514 qs26 (by rw [hM.tx]; rfl) (by rw [hM.tx]; rfl) dX1_nextChange_4 rfl rfl (Nat.le_of_ble_eq_true rfl)) (SP_X1_looked hM.tx hM.ox hM.xp hM.P hM.l3 hM.B hk hcs) ?_
  intro g4 hc4 hm4
  refine xw_astore (l' := [(4, _), (0, _), (1, _), (2, _), (3, _)]) (pc := 7) dX1_nextChange_7 (by decide) rfl ?_
  refine xw_aload (pc := 9) dX1_nextChange_9 0 rfl ?_
  refine xw_callF (pc := 11) (xr_V (as := []) ok_X5_outcome rfl (by decide) q746 q747 q748 (by rw [hc4.1.lt]; rfl) (by rw [hc4.1.lt]; rfl) dX1_nextChange_11 rfl rfl (Nat.le_of_ble_eq_true rfl)) (SP_X5_outcome (d := d + 23) hc4.1) ?_
  intro g11 hc11 hm11
  have F11 := (hc4.2.tr (hc11.2.fr hc4.1.kao6)).sub (fun _ h => h) (Nat.le_refl _)
  have ee : effO g4 (ocm (S 1) (hld (isPa (S 1)) rr (cov (S 1) (-1) k (nI dd) feats)) rr k) = effO g (ocm (S 1) (hld (isPa (S 1)) rr (cov (S 1) (-1) k (nI dd) feats)) rr k) := effO_fr hc4.2 _
  obtain ⟨e, he3, he⟩ := ocm_e (H := (hld (isPa (S 1)) rr (cov (S 1) (-1) k (nI dd) feats))) hM.P.wf hk
  obtain ⟨c, hcc⟩ : ∃ c, effO g (ocm (S 1) (hld (isPa (S 1)) rr (cov (S 1) (-1) k (nI dd) feats)) rr k) = some c := effO_some (by rw [he]; exact m1lt (by omega)) (Or.inr ⟨e, he3, he⟩)
  rw [ee, hcc]
  show XW _ _ 14 _ [.ref c] _ _
  refine xw_astore (l' := [(5, _), (4, _), (0, _), (1, _), (2, _), (3, _)]) (pc := 14) dX1_nextChange_14 (by decide) rfl ?_
  refine xw_iload_n (pc := 16) dX1_nextChange_16 4 rfl ?_
  refine xw_iconst (v := nI 1) (pc := 17) dX1_nextChange_17 rfl ?_
  refine xn_iadd (pc := 18) dX1_nextChange_18 ?_
  refine xw_istore (l' := [(6, _), (5, _), (4, _), (0, _), (1, _), (2, _), (3, _)]) (pc := 19) dX1_nextChange_19 (by decide) rfl ?_
  exact lp_X1_nextChange hM hk ⟨_, rfl⟩ hcc (999 - dd) (dd + 1) g11 (nI dd) (by omega) hc11.1 F11

theorem lp_X1_days {d : Nat} {g : xG} {x p lk fa ka la n rr ww : Nat} {Z : xAd} {S : xMS} (hM : xMn g x p lk fa ka la Z S n rr ww) {k : Nat} {feats e : Int32} {a1 a2 a3 : Int32} (hk : k < n) (he : ∃ q, q < 3 ∧ e = nI q) {c : Nat} (hnc : effO g e = some c) : ∀ (j t : Nat) (gi : xG) (dy : Int32), t + j = 1000 → xCs gi x lk fa ka la p Z (S 1) n rr ww k dy feats (-1) (hld (isPa (S 1)) rr (cov (S 1) (-1) k dy feats)) → xFr (oEq 6) 0 g gi → XW M_X1_days (d + 71) 60 [(7, .int (nI t)), (6, .int (nI (cntB (fun z => decide (oc (S 1) (-1) rr k feats (nI z) = e)) t))), (5, .ref c), (4, .ref lk), (0, .ref x), (1, .int a1), (2, .int a2), (3, .int a3)] [] gi (xVal (.int (nI (cntB (fun z => decide (oc (S 1) (-1) rr k feats (nI z) = e)) 1000))) (fun g' => (∃ dy, xCs g' x lk fa ka la p Z (S 1) n rr ww k dy feats (-1) (hld (isPa (S 1)) rr (cov (S 1) (-1) k dy feats))) ∧ xFr (oEq 6) 0 g g')) := by
  intro j
  induction j with
  | zero =>
    intro t gi dy ht hX hF
    have et : t = 1000 := by omega
    refine xw_iload (pc := 60) dX1_days_60 0 rfl ?_
    refine xw_sipush (v := nI 1000) (pc := 62) dX1_days_62 (by decide +kernel) ?_
    refine xw_icmp_ge (pc := 65) 99 dX1_days_65 rfl (fun hb65 => ?_) (fun hb65 => ?_)
    rotate_left
    · exfalso
      replace hb65 : ¬ (1000 ≤ t) := mt (nI_leI (a := 1000) (b := t) (by omega) (by omega)).mpr hb65
      omega
    replace hb65 : 1000 ≤ t := (nI_leI (a := 1000) (b := t) (by omega) (by omega)).mp hb65
    refine xw_iload (pc := 99) dX1_days_99 1 rfl ?_
    refine xw_iret (pc := 101) .int dX1_days_101 rfl ?_ 
    rw [et]
    exact ⟨rfl, ⟨dy, hX⟩, hF⟩
  | succ j ih =>
    intro t gi dy ht hX hF
    have hE := hM.cn
    have hcl := cntB_le (fun z => decide (oc (S 1) (-1) rr k feats (nI z) = e)) t
    have hst : cntB (fun z => decide (oc (S 1) (-1) rr k feats (nI z) = e)) (t + 1) = cntB (fun z => decide (oc (S 1) (-1) rr k feats (nI z) = e)) t + (if decide (oc (S 1) (-1) rr k feats (nI t) = e) = true then 1 else 0) := rfl
    refine xw_iload (pc := 60) dX1_days_60 0 rfl ?_
    refine xw_sipush (v := nI 1000) (pc := 62) dX1_days_62 (by decide +kernel) ?_
    refine xw_icmp_ge (pc := 65) 99 dX1_days_65 rfl (fun hb65 => ?_) (fun hb65 => ?_)
    · exfalso
      replace hb65 : 1000 ≤ t := (nI_leI (a := 1000) (b := t) (by omega) (by omega)).mp hb65
      omega
    replace hb65 : ¬ (1000 ≤ t) := mt (nI_leI (a := 1000) (b := t) (by omega) (by omega)).mpr hb65
    refine xw_iload (pc := 68) dX1_days_68 1 rfl ?_
    refine xw_aload (pc := 70) dX1_days_70 3 rfl ?_
    refine xw_iload (pc := 72) dX1_days_72 0 rfl ?_
    refine xw_callF (pc := 74) (xr_V (as := [_]) ok_X5_on rfl (by decide) q1592 q1593 q1594 (by first | (rw [hX.lt]; rfl) | (rw [hc74.1.lt]; rfl)) (by first | (rw [hX.lt]; rfl) | (rw [hc74.1.lt]; rfl)) dX1_days_74 rfl rfl (Nat.le_of_ble_eq_true rfl)) (SP_X5_on (dy := nI t) hX) ?_
    intro g74 hc74 hm74
    refine xw_callF (pc := 77) (xr_V (as := []) ok_X5_outcome rfl (by decide) q746 q747 q748 (by first | (rw [hX.lt]; rfl) | (rw [hc74.1.lt]; rfl)) (by first | (rw [hX.lt]; rfl) | (rw [hc74.1.lt]; rfl)) dX1_days_77 rfl rfl (Nat.le_of_ble_eq_true rfl)) (SP_X5_outcome (d := d + 23) hc74.1) ?_
    intro g77 hc77 hm77
    have F77 := (hF.tr (hc74.2.tr (hc77.2.fr hc74.1.kao6))).sub (fun _ h => h) (Nat.le_refl _)
    have ee : effO g74 (ocm (S 1) (hld (isPa (S 1)) rr (cov (S 1) (-1) k (nI t) feats)) rr k) = effO g (ocm (S 1) (hld (isPa (S 1)) rr (cov (S 1) (-1) k (nI t) feats)) rr k) := effO_fr ((hF.tr hc74.2).sub (fun _ h => h) (Nat.le_refl 0)) _
    rw [ee]
    refine xw_aload (pc := 80) dX1_days_80 2 rfl ?_
    refine xw_acmp_ne (ry := (some c)) (rx := (effO g (ocm (S 1) (hld (isPa (S 1)) rr (cov (S 1) (-1) k (nI t) feats)) rr k))) (pc := 82) 89 dX1_days_82 rfl (fun hb82 => ?_) (fun hb82 => ?_)
    · refine xw_iconst (v := nI 0) (pc := 89) dX1_days_89 rfl ?_
      refine xn_iadd (pc := 90) dX1_days_90 ?_
      refine xw_istore (l' := [(6, _), (7, _), (5, _), (4, _), (0, _), (1, _), (2, _), (3, _)]) (pc := 91) dX1_days_91 (by decide) rfl ?_
      refine xw_iinc (v := nI (t + 1)) (l' := [(7, _), (6, _), (5, _), (4, _), (0, _), (1, _), (2, _), (3, _)]) (pc := 93) dX1_days_93 1 rfl (nI_add _ 1) (by decide) rfl ?_
      refine xw_goto (pc := 96) 60 dX1_days_96 rfl ?_
      have hoe : ocm (S 1) (hld (isPa (S 1)) rr (cov (S 1) (-1) k (nI t) feats)) rr k = oc (S 1) (-1) rr k feats (nI t) := rfl
      have hin : ∀ {v : Int32}, (v = -1 ∨ ∃ q, q < 3 ∧ v = nI q) → effO g v = some c → v = e := fun hv h => effO_inj hE hv (Or.inr he) (h.trans hnc.symm)
      have h9 := ih (t + 1) g77 (nI t) (by omega) hc77.1 F77
      first
      | (have e1 : oc (S 1) (-1) rr k feats (nI t) = e := hin (Or.inr (ocm_e hM.P.wf hk)) hb82
         rw [hst, if_pos (decide_eq_true e1)] at h9
         exact h9)
      | (have e1 : ¬ oc (S 1) (-1) rr k feats (nI t) = e := fun q => hb82 (by rw [hoe, q]; exact hnc)
         rw [hst, if_neg (by rw [decide_eq_false e1]; decide)] at h9
         exact h9)
    · refine xw_iconst (v := nI 1) (pc := 85) dX1_days_85 rfl ?_
      refine xw_goto (pc := 86) 90 dX1_days_86 rfl ?_
      refine xn_iadd (pc := 90) dX1_days_90 ?_
      refine xw_istore (l' := [(6, _), (7, _), (5, _), (4, _), (0, _), (1, _), (2, _), (3, _)]) (pc := 91) dX1_days_91 (by decide) rfl ?_
      refine xw_iinc (v := nI (t + 1)) (l' := [(7, _), (6, _), (5, _), (4, _), (0, _), (1, _), (2, _), (3, _)]) (pc := 93) dX1_days_93 1 rfl (nI_add _ 1) (by decide) rfl ?_
      refine xw_goto (pc := 96) 60 dX1_days_96 rfl ?_
      have hoe : ocm (S 1) (hld (isPa (S 1)) rr (cov (S 1) (-1) k (nI t) feats)) rr k = oc (S 1) (-1) rr k feats (nI t) := rfl
      have hin : ∀ {v : Int32}, (v = -1 ∨ ∃ q, q < 3 ∧ v = nI q) → effO g v = some c → v = e := fun hv h => effO_inj hE hv (Or.inr he) (h.trans hnc.symm)
      have h9 := ih (t + 1) g77 (nI t) (by omega) hc77.1 F77
      first
      | (have e1 : oc (S 1) (-1) rr k feats (nI t) = e := hin (Or.inr (ocm_e hM.P.wf hk)) hb82
         rw [hst, if_pos (decide_eq_true e1)] at h9
         exact h9)
      | (have e1 : ¬ oc (S 1) (-1) rr k feats (nI t) = e := fun q => hb82 (by rw [hoe, q]; exact hnc)
         rw [hst, if_neg (by rw [decide_eq_false e1]; decide)] at h9
         exact h9)
theorem SP_X1_days_F {d : Nat} {g : xG} {x p lk fa ka la n rr ww : Nat} {Z : xAd} {S : xMS} (hM : xMn g x p lk fa ka la Z S n rr ww) {e v f : Int32} (hv : ¬ inR v (nI 0) (nI n - nI 1) = true) : XM M_X1_days (d + 71) [.ref x, .int e, .int v, .int f] g (xThr (xsz g) (xExc g 23)) := by
  have lc := hM.P.lc
  have hsk := SP_X2_isScope (d := d + 69) hM.P.pl (v := v)
  rw [lc, Bool.eq_false_iff.mpr hv] at hsk
  refine xm_of (by decide +kernel) (Nat.le_of_ble_eq_true rfl) ?_
  show XW _ _ 0 [(0, _), (1, _), (2, _), (3, _)] [] _ _
  refine xw_aload_n (pc := 0) dX1_days_0 0 rfl ?_
  refine xw_getS (b := p) (pc := 1) fd_X1_10 dX1_days_1 (by first | assumption | (simp [-List.getD_eq_getElem?_getD, xE_setI, xsz_setI, xsl_setI, xtag_setI, xown_setI, xlen_setI, xE_setR, xsz_setR, xsl_setR, xtag_setR, xown_setR, xlen_setR, xE_setW, xsz_setW, xsl_setW, xtag_setW, xown_setW, xlen_setW, xi_setR, xi_setW, xr_setI, xr_setW, xww_setI, xww_setR, xi_setI, xr_setR, xww_setW, xE_new, xsz_new, xsl_new, hM.tx, hM.xp, hM.l3, xsub]; done) | (simp [-List.getD_eq_getElem?_getD, xE_setI, xsz_setI, xsl_setI, xtag_setI, xown_setI, xlen_setI, xE_setR, xsz_setR, xsl_setR, xtag_setR, xown_setR, xlen_setR, xE_setW, xsz_setW, xsl_setW, xtag_setW, xown_setW, xlen_setW, xi_setR, xi_setW, xr_setI, xr_setW, xww_setI, xww_setR, xi_setI, xr_setR, xww_setW, xE_new, xsz_new, xsl_new, hM.tx, hM.xp, hM.l3] <;> rfl)) (by simp [-List.getD_eq_getElem?_getD, xE_setI, xsz_setI, xsl_setI, xtag_setI, xown_setI, xlen_setI, xE_setR, xsz_setR, xsl_setR, xtag_setR, xown_setR, xlen_setR, xE_setW, xsz_setW, xsl_setW, xtag_setW, xown_setW, xlen_setW, xi_setR, xi_setW, xr_setI, xr_setW, xww_setI, xww_setR, xi_setI, xr_setR, xww_setW, xE_new, xsz_new, xsl_new, hM.tx, hM.xp, hM.l3]) ?_
  refine xw_iload_n (pc := 4) dX1_days_4 2 rfl ?_
  refine xw_callV (pc := 5) (xr_V (as := [_]) ok_X2_isScope rfl (by decide) q1251 q1061 q1062 (by rw [hM.P.tag]; rfl) (by rw [hM.P.tag]; rfl) dX1_days_5 rfl rfl (Nat.le_of_ble_eq_true rfl)) (hsk) ?_
  refine xw_callX (pc := 8) (xr_S (as := [_]) ok_X1_checkIndex rfl (by decide) q1252 q1066 dX1_days_8 rfl rfl (Nat.le_of_ble_eq_true rfl)) (SP_X1_checkIndex_F) ?_
  exact xx_out0 rfl (by rw [xExc_tag]; decide) (by rw [xExc_tag]; decide) (by rw [xExc_own]; decide) ⟨rfl, rfl⟩

theorem SP_X1_days_F2 {d : Nat} {g : xG} {x p lk fa ka la n rr ww : Nat} {Z : xAd} {S : xMS} (hM : xMn g x p lk fa ka la Z S n rr ww) {k : Nat} {e feats : Int32} (hk : k < n) (hbad : (inR e (nI 0) (nI 2) && inR feats (nI 0) (nI 999999)) = false) : XM M_X1_days (d + 71) [.ref x, .int e, .int (nI k), .int feats] g (xThr (xsz g) (xExc g 22)) := by
  have n10 := hM.P.wf.n10
  have lc := hM.P.lc
  have hsk := SP_X2_isScope (d := d + 69) hM.P.pl (v := nI k)
  rw [lc, inR_k (by omega) hk] at hsk
  refine xm_of (by decide +kernel) (Nat.le_of_ble_eq_true rfl) ?_
  show XW _ _ 0 [(0, _), (1, _), (2, _), (3, _)] [] _ _
  refine xw_aload_n (pc := 0) dX1_days_0 0 rfl ?_
  refine xw_getS (b := p) (pc := 1) fd_X1_10 dX1_days_1 (by first | assumption | (simp [-List.getD_eq_getElem?_getD, xE_setI, xsz_setI, xsl_setI, xtag_setI, xown_setI, xlen_setI, xE_setR, xsz_setR, xsl_setR, xtag_setR, xown_setR, xlen_setR, xE_setW, xsz_setW, xsl_setW, xtag_setW, xown_setW, xlen_setW, xi_setR, xi_setW, xr_setI, xr_setW, xww_setI, xww_setR, xi_setI, xr_setR, xww_setW, xE_new, xsz_new, xsl_new, hM.tx, hM.xp, hM.l3, xsub]; done) | (simp [-List.getD_eq_getElem?_getD, xE_setI, xsz_setI, xsl_setI, xtag_setI, xown_setI, xlen_setI, xE_setR, xsz_setR, xsl_setR, xtag_setR, xown_setR, xlen_setR, xE_setW, xsz_setW, xsl_setW, xtag_setW, xown_setW, xlen_setW, xi_setR, xi_setW, xr_setI, xr_setW, xww_setI, xww_setR, xi_setI, xr_setR, xww_setW, xE_new, xsz_new, xsl_new, hM.tx, hM.xp, hM.l3] <;> rfl)) (by simp [-List.getD_eq_getElem?_getD, xE_setI, xsz_setI, xsl_setI, xtag_setI, xown_setI, xlen_setI, xE_setR, xsz_setR, xsl_setR, xtag_setR, xown_setR, xlen_setR, xE_setW, xsz_setW, xsl_setW, xtag_setW, xown_setW, xlen_setW, xi_setR, xi_setW, xr_setI, xr_setW, xww_setI, xww_setR, xi_setI, xr_setR, xww_setW, xE_new, xsz_new, xsl_new, hM.tx, hM.xp, hM.l3]) ?_
  refine xw_iload_n (pc := 4) dX1_days_4 2 rfl ?_
  refine xw_callV (pc := 5) (xr_V (as := [_]) ok_X2_isScope rfl (by decide) q1251 q1061 q1062 (by rw [hM.P.tag]; rfl) (by rw [hM.P.tag]; rfl) dX1_days_5 rfl rfl (Nat.le_of_ble_eq_true rfl)) (hsk) ?_
  refine xw_callU (pc := 8) (xr_S (as := [_]) ok_X1_checkIndex rfl (by decide) q1252 q1066 dX1_days_8 rfl rfl (Nat.le_of_ble_eq_true rfl)) (SP_X1_checkIndex_T) ?_
  refine xw_iload_n (pc := 11) dX1_days_11 1 rfl ?_
  refine xw_iconst (v := nI 0) (pc := 12) dX1_days_12 rfl ?_
  refine xw_iconst (v := nI 2) (pc := 13) dX1_days_13 rfl ?_
  refine xw_callV (pc := 14) (xr_S (as := [_, _, _]) ok_X1_isIn rfl (by decide) q1180 q784 dX1_days_14 rfl rfl (Nat.le_of_ble_eq_true rfl)) (SP_X1_isIn) ?_
  refine xw_if_eq (pc := 17) 31 dX1_days_17 rfl (fun hb17 => ?_) (fun hb17 => ?_)
  · replace hb17 := bI_0.mp hb17
    refine xw_iconst (v := nI 0) (pc := 31) dX1_days_31 rfl ?_
    refine xw_callX (pc := 32) (xr_S (as := [_]) ok_X1_check rfl (by decide) q1181 q1182 dX1_days_32 rfl rfl (Nat.le_of_ble_eq_true rfl)) ((show XM M_X1_check (d + 70) [.int (nI 0)] g (xThr (xsz g) (xExc g 22)) from SP_X1_check_F)) ?_
    exact xx_out0 rfl (by rw [xExc_tag]; decide) (by rw [xExc_tag]; decide) (by rw [xExc_own]; decide) ⟨rfl, rfl⟩
  · replace hb17 := bI_n0.mp hb17
    refine xw_iload_n (pc := 20) dX1_days_20 3 rfl ?_
    refine xw_callV (pc := 21) (xr_S (as := [_]) ok_X1_areFeatures rfl (by decide) q1516 q1517 dX1_days_21 rfl rfl (Nat.le_of_ble_eq_true rfl)) (SP_X1_areFeatures) ?_
    refine xw_if_eq (pc := 24) 31 dX1_days_24 rfl (fun hb24 => ?_) (fun hb24 => ?_)
    rotate_left
    · exfalso
      replace hb24 := bI_n0.mp hb24
      rw [hb17, hb24] at hbad
      cases hbad
    replace hb24 := bI_0.mp hb24
    refine xw_iconst (v := nI 0) (pc := 31) dX1_days_31 rfl ?_
    refine xw_callX (pc := 32) (xr_S (as := [_]) ok_X1_check rfl (by decide) q1181 q1182 dX1_days_32 rfl rfl (Nat.le_of_ble_eq_true rfl)) ((show XM M_X1_check (d + 70) [.int (nI 0)] g (xThr (xsz g) (xExc g 22)) from SP_X1_check_F)) ?_
    exact xx_out0 rfl (by rw [xExc_tag]; decide) (by rw [xExc_tag]; decide) (by rw [xExc_own]; decide) ⟨rfl, rfl⟩

theorem SP_X1_days {d : Nat} {g : xG} {x p lk fa ka la n rr ww : Nat} {Z : xAd} {S : xMS} (hM : xMn g x p lk fa ka la Z S n rr ww) {k : Nat} {e feats : Int32} (hk : k < n) (he : inR e (nI 0) (nI 2) = true) (hf : inR feats (nI 0) (nI 999999) = true) : XM M_X1_days (d + 71) [.ref x, .int e, .int (nI k), .int feats] g (xVal (.int (nI (cntB (fun z => decide (oc (S 1) (-1) rr k feats (nI z) = e)) 1000))) (fun g' => (∃ dy, xCs g' x lk fa ka la p Z (S 1) n rr ww k dy feats (-1) (hld (isPa (S 1)) rr (cov (S 1) (-1) k dy feats))) ∧ xFr (oEq 6) 0 g g')) := by
  have n10 := hM.P.wf.n10
  have lc := hM.P.lc
  have hsk := SP_X2_isScope (d := d + 69) hM.P.pl (v := nI k)
  rw [lc, inR_k (by omega) hk] at hsk
  obtain ⟨q, hq, rfl⟩ := inR_nat (b := 2) (by decide) he
  have he3 : ∃ q', q' < 3 ∧ nI q = nI q' := ⟨q, by omega, rfl⟩
  obtain ⟨c, hcc⟩ : ∃ c, effO g (nI q) = some c := effO_some (m1lt (by omega)) (Or.inr he3)
  have hee : effO g (nI q) = some c := hcc
  refine xm_of (by decide +kernel) (Nat.le_of_ble_eq_true rfl) ?_
  show XW _ _ 0 [(0, _), (1, _), (2, _), (3, _)] [] _ _
  refine xw_aload_n (pc := 0) dX1_days_0 0 rfl ?_
  refine xw_getS (b := p) (pc := 1) fd_X1_10 dX1_days_1 (by first | assumption | (simp [-List.getD_eq_getElem?_getD, xE_setI, xsz_setI, xsl_setI, xtag_setI, xown_setI, xlen_setI, xE_setR, xsz_setR, xsl_setR, xtag_setR, xown_setR, xlen_setR, xE_setW, xsz_setW, xsl_setW, xtag_setW, xown_setW, xlen_setW, xi_setR, xi_setW, xr_setI, xr_setW, xww_setI, xww_setR, xi_setI, xr_setR, xww_setW, xE_new, xsz_new, xsl_new, hM.tx, hM.xp, hM.l3, xsub]; done) | (simp [-List.getD_eq_getElem?_getD, xE_setI, xsz_setI, xsl_setI, xtag_setI, xown_setI, xlen_setI, xE_setR, xsz_setR, xsl_setR, xtag_setR, xown_setR, xlen_setR, xE_setW, xsz_setW, xsl_setW, xtag_setW, xown_setW, xlen_setW, xi_setR, xi_setW, xr_setI, xr_setW, xww_setI, xww_setR, xi_setI, xr_setR, xww_setW, xE_new, xsz_new, xsl_new, hM.tx, hM.xp, hM.l3] <;> rfl)) (by simp [-List.getD_eq_getElem?_getD, xE_setI, xsz_setI, xsl_setI, xtag_setI, xown_setI, xlen_setI, xE_setR, xsz_setR, xsl_setR, xtag_setR, xown_setR, xlen_setR, xE_setW, xsz_setW, xsl_setW, xtag_setW, xown_setW, xlen_setW, xi_setR, xi_setW, xr_setI, xr_setW, xww_setI, xww_setR, xi_setI, xr_setR, xww_setW, xE_new, xsz_new, xsl_new, hM.tx, hM.xp, hM.l3]) ?_
  refine xw_iload_n (pc := 4) dX1_days_4 2 rfl ?_
  refine xw_callV (pc := 5) (xr_V (as := [_]) ok_X2_isScope rfl (by decide) q1251 q1061 q1062 (by rw [hM.P.tag]; rfl) (by rw [hM.P.tag]; rfl) dX1_days_5 rfl rfl (Nat.le_of_ble_eq_true rfl)) (hsk) ?_
  refine xw_callU (pc := 8) (xr_S (as := [_]) ok_X1_checkIndex rfl (by decide) q1252 q1066 dX1_days_8 rfl rfl (Nat.le_of_ble_eq_true rfl)) (SP_X1_checkIndex_T) ?_
  refine xw_iload_n (pc := 11) dX1_days_11 1 rfl ?_
  refine xw_iconst (v := nI 0) (pc := 12) dX1_days_12 rfl ?_
  refine xw_iconst (v := nI 2) (pc := 13) dX1_days_13 rfl ?_
  refine xw_callV (pc := 14) (xr_S (as := [_, _, _]) ok_X1_isIn rfl (by decide) q1180 q784 dX1_days_14 rfl rfl (Nat.le_of_ble_eq_true rfl)) (SP_X1_isInT he) ?_
  refine xw_if_eq (pc := 17) 31 dX1_days_17 rfl (fun hb => absurd hb (by decide)) (fun _ => ?_)
  refine xw_iload_n (pc := 20) dX1_days_20 3 rfl ?_
  refine xw_callV (pc := 21) (xr_S (as := [_]) ok_X1_areFeatures rfl (by decide) q1516 q1517 dX1_days_21 rfl rfl (Nat.le_of_ble_eq_true rfl)) ((show XM M_X1_areFeatures (d + 70) [.int feats] g (xOne (some (.int (bI true))) g) from hf ▸ SP_X1_areFeatures)) ?_
  refine xw_if_eq (pc := 24) 31 dX1_days_24 rfl (fun hb => absurd hb (by decide)) (fun _ => ?_)
  refine xw_iconst (v := nI 1) (pc := 27) dX1_days_27 rfl ?_
  refine xw_goto (pc := 28) 32 dX1_days_28 rfl ?_
  refine xw_callU (pc := 32) (xr_S (as := [_]) ok_X1_check rfl (by decide) q1181 q1182 dX1_days_32 rfl rfl (Nat.le_of_ble_eq_true rfl)) ((show XM M_X1_check (d + 70) [.int (nI 1)] g (xOne none g) from SP_X1_check_T)) ?_
  refine xw_aload_n (pc := 35) dX1_days_35 0 rfl ?_
  refine xw_getS (b := lk) (pc := 36) fd_X1_28 dX1_days_36 (by first | assumption | (simp [-List.getD_eq_getElem?_getD, xE_setI, xsz_setI, xsl_setI, xtag_setI, xown_setI, xlen_setI, xE_setR, xsz_setR, xsl_setR, xtag_setR, xown_setR, xlen_setR, xE_setW, xsz_setW, xsl_setW, xtag_setW, xown_setW, xlen_setW, xi_setR, xi_setW, xr_setI, xr_setW, xww_setI, xww_setR, xi_setI, xr_setR, xww_setW, xE_new, xsz_new, xsl_new, hM.tx, hM.xp, hM.l3, xsub]; done) | (simp [-List.getD_eq_getElem?_getD, xE_setI, xsz_setI, xsl_setI, xtag_setI, xown_setI, xlen_setI, xE_setR, xsz_setR, xsl_setR, xtag_setR, xown_setR, xlen_setR, xE_setW, xsz_setW, xsl_setW, xtag_setW, xown_setW, xlen_setW, xi_setR, xi_setW, xr_setI, xr_setW, xww_setI, xww_setR, xi_setI, xr_setR, xww_setW, xE_new, xsz_new, xsl_new, hM.tx, hM.xp, hM.l3] <;> rfl)) (by simp [-List.getD_eq_getElem?_getD, xE_setI, xsz_setI, xsl_setI, xtag_setI, xown_setI, xlen_setI, xE_setR, xsz_setR, xsl_setR, xtag_setR, xown_setR, xlen_setR, xE_setW, xsz_setW, xsl_setW, xtag_setW, xown_setW, xlen_setW, xi_setR, xi_setW, xr_setI, xr_setW, xww_setI, xww_setR, xi_setI, xr_setR, xww_setW, xE_new, xsz_new, xsl_new, hM.tx, hM.xp, hM.l3]) ?_
  refine xw_iload_n (pc := 39) dX1_days_39 2 rfl ?_
  refine xw_iconst (v := nI 0) (pc := 40) dX1_days_40 rfl ?_
  refine xw_iload_n (pc := 41) dX1_days_41 3 rfl ?_
  refine xw_iconst (v := -1) (pc := 42) dX1_days_42 (by decide +kernel) ?_
  refine xw_callF (pc := 43) (xr_V (as := [_, _, _, _]) ok_X5_at_2 rfl (by decide) q1520 q737 q738 (by rw [hM.B.lt]; rfl) (by rw [hM.B.lt]; rfl) dX1_days_43 rfl rfl (Nat.le_of_ble_eq_true rfl)) (SP_X5_at_2 hM.tx hM.ox hM.xp hM.P hk hM.B) ?_
  intro g43 hc43 hm43
  refine xw_astore (l' := [(4, _), (0, _), (1, _), (2, _), (3, _)]) (pc := 46) dX1_days_46 (by decide) rfl ?_
  refine xw_iload_n (pc := 48) dX1_days_48 2 rfl ?_
  skip
  refine xw_callV (pc := 49) (xr_S (as := [_]) ok_X1_effectOf rfl (by decide) q1207 q1208 dX1_days_49 rfl rfl (Nat.le_of_ble_eq_true rfl)) (SP_X1_effectOf) ?_
  rw [show effO g43 (nI q) = some c from (effO_fr hc43.2 _).trans hee]
  show XW _ _ 52 _ [.ref c] _ _
  refine xw_astore (l' := [(5, _), (4, _), (0, _), (1, _), (2, _), (3, _)]) (pc := 52) dX1_days_52 (by decide) rfl ?_
  refine xw_iconst (v := nI 0) (pc := 54) dX1_days_54 rfl ?_
  refine xw_istore (l' := [(6, _), (5, _), (4, _), (0, _), (1, _), (2, _), (3, _)]) (pc := 55) dX1_days_55 (by decide) rfl ?_
  refine xw_iconst (v := nI 0) (pc := 57) dX1_days_57 rfl ?_
  refine xw_istore (l' := [(7, _), (6, _), (5, _), (4, _), (0, _), (1, _), (2, _), (3, _)]) (pc := 58) dX1_days_58 (by decide) rfl ?_
  exact lp_X1_days hM hk he3 hcc 1000 0 g43 (nI 0) (by omega) hc43.1 hc43.2

