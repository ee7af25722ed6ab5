/-! CLASS 7: what is possible for a rule, 2 -/
set_option maxRecDepth 100000
theorem xw_rbars {M : xM} {d pc : Nat} {l : List (Nat × Value)} {rest : List Value} {g : xG} {Q : Option Value ⊕ Nat → xG → Prop} {idx b : Nat} {p1 p2 : Value} {v : Value} (hb : xtag g b = 6 ∨ xtag g b = 7) (hc : XM M_X7_bars d (.ref b :: [p1, p2]) g (xOne (some v) g)) (hd : decode M.2.1 pc = .ok (.invokevirtual idx, 3)) (hl : Cond.methodLink M.1.cls idx ⟨"PolicyNotation$Rule", "bars", "(II)Z"⟩ ∈ lw_all) (hr : (rest.map fun v => v.category).sum ≤ 8) (k : XW M (d + 1) (pc + 3) l (v :: rest) g Q) : XW M (d + 1) pc l (p2 :: p1 :: .ref b :: rest) g Q := by
  rcases hb with h | h
  · exact xw_callV (xr_UP (as := [p1, p2]) ok_X7_bars rfl (by decide) hl q2773 q1437 q1436 (by rw [h]; rfl) (by rw [h]; exact q926) q1435 hd rfl rfl hr) hc k
  · exact xw_callV (xr_UP (as := [p1, p2]) ok_X7_bars rfl (by decide) hl q2773 q1437 q1436 (by rw [h]; rfl) (by rw [h]; exact q1011) q1435 hd rfl rfl hr) hc k
theorem xw_isPossible {M : xM} {d pc : Nat} {l : List (Nat × Value)} {rest : List Value} {g : xG} {Q : Option Value ⊕ Nat → xG → Prop} {idx b : Nat} {p1 : Value} {v : Value} (hb : xtag g b = 6 ∨ xtag g b = 7) (hc : XM M_X7_isPossible d (.ref b :: [p1]) g (xOne (some v) g)) (hd : decode M.2.1 pc = .ok (.invokevirtual idx, 3)) (hl : Cond.methodLink M.1.cls idx ⟨"PolicyNotation$Rule", "isPossible", "(I)Z"⟩ ∈ lw_all) (hr : (rest.map fun v => v.category).sum ≤ 8) (k : XW M (d + 1) (pc + 3) l (v :: rest) g Q) : XW M (d + 1) pc l (p1 :: .ref b :: rest) g Q := by
  rcases hb with h | h
  · exact xw_callV (xr_U (x := ⟨"PolicyNotation$Rule", "isPossible", "(I)Z"⟩) (as := [p1]) ok_X7_isPossible rfl (by decide) hl q1430 (Or.inr ⟨_, _, _, q1429, q1433⟩) ⟨by decide, by decide, by decide +kernel⟩ q1429 (by rw [h]; rfl) (by rw [h]; exact q1431) hd rfl rfl hr) hc k
  · exact xw_callV (xr_U (x := ⟨"PolicyNotation$Rule", "isPossible", "(I)Z"⟩) (as := [p1]) ok_X7_isPossible rfl (by decide) hl q1430 (Or.inr ⟨_, _, _, q1429, q1433⟩) ⟨by decide, by decide, by decide +kernel⟩ q1429 (by rw [h]; rfl) (by rw [h]; exact q1432) hd rfl rfl hr) hc k
theorem xw_impossible {M : xM} {d pc : Nat} {l : List (Nat × Value)} {rest : List Value} {g : xG} {Q : Option Value ⊕ Nat → xG → Prop} {idx b : Nat}  {v : Value} (hb : xtag g b = 6 ∨ xtag g b = 7) (hc : XM M_X7_impossible d (.ref b :: []) g (xOne (some v) g)) (hd : decode M.2.1 pc = .ok (.invokevirtual idx, 3)) (hl : Cond.methodLink M.1.cls idx ⟨"PolicyNotation$Rule", "impossible", "()I"⟩ ∈ lw_all) (hr : (rest.map fun v => v.category).sum ≤ 8) (k : XW M (d + 1) (pc + 3) l (v :: rest) g Q) : XW M (d + 1) pc l (.ref b :: rest) g Q := by
  rcases hb with h | h
  · exact xw_callV (xr_U (x := ⟨"PolicyNotation$Rule", "impossible", "()I"⟩) (as := []) ok_X7_impossible rfl (by decide) hl q1424 (Or.inr ⟨_, _, _, q1423, q1427⟩) ⟨by decide, by decide, by decide +kernel⟩ q1423 (by rw [h]; rfl) (by rw [h]; exact q1425) hd rfl rfl hr) hc k
  · exact xw_callV (xr_U (x := ⟨"PolicyNotation$Rule", "impossible", "()I"⟩) (as := []) ok_X7_impossible rfl (by decide) hl q1424 (Or.inr ⟨_, _, _, q1423, q1427⟩) ⟨by decide, by decide, by decide +kernel⟩ q1423 (by rw [h]; rfl) (by rw [h]; exact q1426) hd rfl rfl hr) hc k
theorem anyK_t {P : Nat → Bool} {x n : Nat} (hx : x < n) (hp : P x = true) : anyK P n = true := by
  induction n with
  | zero => omega
  | succ n ihn =>
    rw [anyK]
    by_cases hxn : x = n
    · rw [← hxn, hp, Bool.or_true]
    · rw [ihn (by omega), Bool.true_or]
/-- what bars the value v of the feature f, of a list's tests -/
def rbar (g : xG) (ts : List Nat) (f v : Int32) : Bool := anyK (fun j => tbar g (ts.getD j 0) f v) ts.length
/-- some digit is possible; the first feature for which none is -/
def posB (g : xG) (ts : List Nat) (f : Int32) : Bool := anyK (fun v => !rbar g ts f (nI v)) 10
def impK (g : xG) (ts : List Nat) : Int32 := lostK (fun f => posB g ts (nI f)) 6 0
theorem lp_X7_isPossible {d : Nat} {g : xG} {a o tl arr : Nat} {ts : List Nat} (ht : xtag g a = 6 ∨ xtag g a = 7) (htl : xr g a 6 = some tl) (hL : xAL g o tl arr ts) (hT : xTs g ts) (f : Int32) : ∀ (jj j : Nat), 10 - j < jj → j ≤ 10 → anyK (fun v => !rbar g ts f (nI v)) j = false → XW M_X7_isPossible (d + 4) 2 [(2, .int (nI j)), (0, .ref a), (1, .int f)] [] g (xOne (some (.int (bI (posB g ts f)))) g) := by
  intro jj
  induction jj with
  | zero => intro j h; omega
  | succ jj ih =>
  intro j hj hk hal
  have hbx := SP_X7_bars (d := d) ht htl hL hT f (nI j)
  refine xw_iload_n (pc := 2) dX7_isPossible_2 0 rfl ?_
  refine xw_bipush (v := nI 10) (pc := 3) dX7_isPossible_3 (by decide +kernel) ?_
  refine xw_icmp_ge (pc := 5) 25 dX7_isPossible_5 rfl (fun hb5 => ?_) (fun hb5 => ?_)
  · replace hb5 : 10 ≤ j := (nI_leI (a := 10) (b := j) (by omega) (by omega)).mp hb5
    refine xw_iconst (v := nI 0) (pc := 25) dX7_isPossible_25 rfl ?_
    refine xw_iret (pc := 26) .boolean dX7_isPossible_26 rfl ?_ 
    obtain rfl : j = 10 := by omega
    unfold posB
    rw [hal]
    exact ⟨rfl, rfl⟩
  · replace hb5 : ¬ (10 ≤ j) := mt (nI_leI (a := 10) (b := j) (by omega) (by omega)).mpr hb5
    refine xw_aload_n (pc := 8) dX7_isPossible_8 1 rfl ?_
    refine xw_iload_n (pc := 9) dX7_isPossible_9 2 rfl ?_
    refine xw_iload_n (pc := 10) dX7_isPossible_10 0 rfl ?_
    refine xw_rbars (pc := 11) ht hbx dX7_isPossible_11 q1434 (Nat.le_of_ble_eq_true rfl) ?_
    refine xw_if_ne (pc := 14) 19 dX7_isPossible_14 rfl (fun hb14 => ?_) (fun hb14 => ?_)
    · replace hb14 := bI_n0.mp hb14
      refine xw_iinc (v := nI (j + 1)) (l' := [(2, _), (0, _), (1, _)]) (pc := 19) dX7_isPossible_19 0 rfl (nI_add _ 1) (by decide) rfl ?_
      refine xw_goto (pc := 22) 2 dX7_isPossible_22 rfl ?_
      have hb15 : rbar g ts f (nI j) = true := hb14
      exact ih (j + 1) (by omega) (by omega) (by rw [anyK, hal, hb15]; rfl)
    · replace hb14 := bI_0.mp hb14
      refine xw_iconst (v := nI 1) (pc := 17) dX7_isPossible_17 rfl ?_
      refine xw_iret (pc := 18) .boolean dX7_isPossible_18 rfl ?_ 
      have hb15 : rbar g ts f (nI j) = false := hb14
      unfold posB
      rw [anyK_t (x := j) (by omega) (by rw [hb15]; rfl)]
      exact ⟨rfl, rfl⟩
theorem SP_X7_isPossible {d : Nat} {g : xG} {a o tl arr : Nat} {ts : List Nat} (ht : xtag g a = 6 ∨ xtag g a = 7) (htl : xr g a 6 = some tl) (hL : xAL g o tl arr ts) (hT : xTs g ts) (f : Int32) : XM M_X7_isPossible (d + 4) [.ref a, .int f] g (xOne (some (.int (bI (posB g ts f)))) g) := by
  refine xm_of (by decide +kernel) (Nat.le_of_ble_eq_true rfl) ?_
  show XW _ _ 0 [(0, _), (1, _)] [] _ _
  refine xw_iconst (v := nI 0) (pc := 0) dX7_isPossible_0 rfl ?_
  refine xw_istore_n (l' := [(2, _), (0, _), (1, _)]) (pc := 1) dX7_isPossible_1 rfl (by decide) rfl ?_
  exact lp_X7_isPossible ht htl hL hT f 11 0 (by omega) (by omega) rfl
theorem lp_X7_impossible {d : Nat} {g : xG} {a o tl arr : Nat} {ts : List Nat} (ht : xtag g a = 6 ∨ xtag g a = 7) (htl : xr g a 6 = some tl) (hL : xAL g o tl arr ts) (hT : xTs g ts) : ∀ (j f : Nat), f + j = 6 → XW M_X7_impossible (d + 5) 2 [(1, .int (nI f)), (0, .ref a)] [] g (xOne (some (.int (lostK (fun f => posB g ts (nI f)) j f))) g) := by
  intro j
  induction j with
  | zero =>
    intro f hf
    refine xw_iload_n (pc := 2) dX7_impossible_2 0 rfl ?_
    refine xw_bipush (v := nI 6) (pc := 3) dX7_impossible_3 (by decide +kernel) ?_
    refine xw_icmp_ge (pc := 5) 24 dX7_impossible_5 rfl (fun hb5 => ?_) (fun hb5 => ?_)
    rotate_left
    · exfalso
      replace hb5 : ¬ (6 ≤ f) := mt (nI_leI (a := 6) (b := f) (by omega) (by omega)).mpr hb5
      omega
    replace hb5 : 6 ≤ f := (nI_leI (a := 6) (b := f) (by omega) (by omega)).mp hb5
    refine xw_iconst (v := -1) (pc := 24) dX7_impossible_24 (by decide +kernel) ?_
    refine xw_iret (pc := 25) .int dX7_impossible_25 rfl ?_ 
    exact ⟨rfl, rfl⟩
  | succ j ih =>
    intro f hf
    have hpx := SP_X7_isPossible (d := d) ht htl hL hT (nI f)
    refine xw_iload_n (pc := 2) dX7_impossible_2 0 rfl ?_
    refine xw_bipush (v := nI 6) (pc := 3) dX7_impossible_3 (by decide +kernel) ?_
    refine xw_icmp_ge (pc := 5) 24 dX7_impossible_5 rfl (fun hb5 => ?_) (fun hb5 => ?_)
    · exfalso
      replace hb5 : 6 ≤ f := (nI_leI (a := 6) (b := f) (by omega) (by omega)).mp hb5
      omega
    replace hb5 : ¬ (6 ≤ f) := mt (nI_leI (a := 6) (b := f) (by omega) (by omega)).mpr hb5
    refine xw_aload_n (pc := 8) dX7_impossible_8 1 rfl ?_
    refine xw_iload_n (pc := 9) dX7_impossible_9 0 rfl ?_
    refine xw_isPossible (pc := 10) ht hpx dX7_impossible_10 q1428 (Nat.le_of_ble_eq_true rfl) ?_
    refine xw_if_ne (pc := 13) 18 dX7_impossible_13 rfl (fun hb13 => ?_) (fun hb13 => ?_)
    · replace hb13 := bI_n0.mp hb13
      refine xw_iinc (v := nI (f + 1)) (l' := [(1, _), (0, _)]) (pc := 18) dX7_impossible_18 0 rfl (nI_add _ 1) (by decide) rfl ?_
      refine xw_goto (pc := 21) 2 dX7_impossible_21 rfl ?_
      rw [show lostK (fun f => posB g ts (nI f)) (j + 1) f = lostK (fun f => posB g ts (nI f)) j (f + 1) from if_neg (by show ¬ posB g ts (nI f) = false; rw [hb13]; decide)]
      exact ih (f + 1) (by omega)
    · replace hb13 := bI_0.mp hb13
      refine xw_iload_n (pc := 16) dX7_impossible_16 0 rfl ?_
      refine xw_iret (pc := 17) .int dX7_impossible_17 rfl ?_ 
      rw [show lostK (fun f => posB g ts (nI f)) (j + 1) f = nI f from if_pos hb13]
      exact ⟨rfl, rfl⟩
theorem SP_X7_impossible {d : Nat} {g : xG} {a o tl arr : Nat} {ts : List Nat} (ht : xtag g a = 6 ∨ xtag g a = 7) (htl : xr g a 6 = some tl) (hL : xAL g o tl arr ts) (hT : xTs g ts) : XM M_X7_impossible (d + 5) [.ref a] g (xOne (some (.int (impK g ts))) g) := by
  refine xm_of (by decide +kernel) (Nat.le_of_ble_eq_true rfl) ?_
  show XW _ _ 0 [(0, _)] [] _ _
  refine xw_iconst (v := nI 0) (pc := 0) dX7_impossible_0 rfl ?_
  refine xw_istore_n (l' := [(1, _), (0, _)]) (pc := 1) dX7_impossible_1 rfl (by decide) rfl ?_
  exact lp_X7_impossible ht htl hL hT 6 0 rfl
