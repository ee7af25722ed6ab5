/-! MODEL 10: worked cases, told -/
set_option maxRecDepth 100000
theorem nI_land (a b : Nat) : nI a &&& nI b = nI (a &&& b) := by
  apply Int32.toBitVec_inj.mp
  show BitVec.ofNat 32 a &&& BitVec.ofNat 32 b = BitVec.ofNat 32 (a &&& b)
  apply BitVec.eq_of_toNat_eq
  simp [Nat.and_mod_two_pow]
/-- how many ones -/
def pcN (v : Nat) : Nat := if h : v = 0 then 0 else pcN (v &&& (v - 1)) + 1
termination_by v
decreasing_by exact Nat.lt_of_le_of_lt Nat.and_le_right (by omega)
theorem pcN_le (v : Nat) : pcN v ≤ v := by
  induction v using Nat.strongRecOn with
  | _ v ih =>
    rw [pcN]
    split
    · exact Nat.zero_le _
    · have h1 : v &&& (v - 1) ≤ v - 1 := Nat.and_le_right
      have := ih (v &&& (v - 1)) (by omega)
      omega
theorem lp_X6_ones {d : Nat} {g : xG} {a : Int32} : ∀ (v c : Nat), v < 5000 → c + pcN v < 10000 → XW M_X6_ones d 4 [(2, .int (nI v)), (1, .int (nI c)), (0, .int a)] [] g (xOne (some (.int (nI (c + pcN v)))) g) := by
  intro v
  induction v using Nat.strongRecOn with
  | _ v ih =>
  intro c hv hc
  have h1 : v &&& (v - 1) ≤ v - 1 := Nat.and_le_right
  refine xw_iload_n (pc := 4) dX6_ones_4 0 rfl ?_
  refine xw_if_eq (pc := 5) 20 dX6_ones_5 rfl (fun hb5 => ?_) (fun hb5 => ?_)
  · replace hb5 : v = 0 := (nI_eq (a := v) (b := 0) (by omega) (by omega)).mp hb5
    refine xw_iload_n (pc := 20) dX6_ones_20 1 rfl ?_
    refine xw_iret (pc := 21) .int dX6_ones_21 rfl ?_ 
    obtain rfl := hb5
    rw [show pcN 0 = 0 from by rw [pcN]; rfl]
    exact ⟨rfl, rfl⟩
  · replace hb5 : ¬ (v = 0) := mt (nI_eq (a := v) (b := 0) (by omega) (by omega)).mpr hb5
    refine xw_iinc (v := nI (c + 1)) (l' := [(1, _), (2, _), (0, _)]) (pc := 8) dX6_ones_8 1 rfl (nI_add _ 1) (by decide) rfl ?_
    refine xw_iload_n (pc := 11) dX6_ones_11 1 rfl ?_
    refine xw_iload_n (pc := 12) dX6_ones_12 1 rfl ?_
    refine xw_iconst (v := nI 1) (pc := 13) dX6_ones_13 rfl ?_
    refine xn_isub (pc := 14) dX6_ones_14 (by omega) ?_
    refine xw_iand (pc := 15) dX6_ones_15 ?_
    refine xw_istore_n (l' := [(2, _), (1, _), (0, _)]) (pc := 16) dX6_ones_16 rfl (by decide) rfl ?_
    refine xw_goto (pc := 17) 4 dX6_ones_17 rfl ?_
    rw [nI_land]
    rw [pcN, dif_neg hb5] at hc ⊢
    have h := ih (v &&& (v - 1)) (by omega) (c + 1) (by omega) (by omega)
    rw [show c + 1 + pcN (v &&& (v - 1)) = c + (pcN (v &&& (v - 1)) + 1) from by omega] at h
    exact h
theorem SP_X6_ones {d : Nat} {g : xG} (v : Nat) (hv : v < 5000) : XM M_X6_ones d [.int (nI v)] g (xOne (some (.int (nI (pcN v)))) g) := by
  have hp := pcN_le v
  refine xm_of (by decide +kernel) (Nat.le_of_ble_eq_true rfl) ?_
  show XW _ _ 0 [(0, _)] [] _ _
  refine xw_iconst (v := nI 0) (pc := 0) dX6_ones_0 rfl ?_
  refine xw_istore_n (l' := [(1, _), (0, _)]) (pc := 1) dX6_ones_1 rfl (by decide) rfl ?_
  refine xw_iload_n (pc := 2) dX6_ones_2 1 rfl ?_
  refine xw_istore_n (l' := [(2, _), (1, _), (0, _)]) (pc := 3) dX6_ones_3 rfl (by decide) rfl ?_
  have h := lp_X6_ones (d := d) (g := g) (a := nI v) v 0 hv (by omega)
  rw [Nat.zero_add] at h
  exact h
/-- the set as a number -/
def bN (P : Nat → Bool) : Nat → Nat
  | 0 => 0
  | k + 1 => bN P k + (if P k then 2 ^ k else 0)
theorem bN_lt {P : Nat → Bool} {k : Nat} : bN P k < 2 ^ k := by
  induction k with
  | zero => exact Nat.one_pos
  | succ k ih =>
    rw [bN, Nat.pow_succ]
    split <;> omega
theorem bN_or : ∀ k, k < 12 → ∀ v, v < 2 ^ k → nI v ||| (nI 1 <<< (nI k &&& 31)) = nI (v + 2 ^ k) := by decide +kernel
theorem bN_and : ∀ k, k < 12 → ∀ v, v < 2 ^ k → v ≠ 0 → (v + 2 ^ k) &&& (v + 2 ^ k - 1) = (v &&& (v - 1)) + 2 ^ k := by decide +kernel
theorem bN_p2 : ∀ k, k < 12 → (2 ^ k) &&& (2 ^ k - 1) = 0 := by decide +kernel
theorem or_0 (x : Int32) : x ||| nI 0 = x := by show x ||| 0 = x; exact Int32.or_zero
theorem bset_bN {P : Nat → Bool} : ∀ k, k ≤ 12 → bset P k = nI (bN P k) := by
  intro k
  induction k with
  | zero => intro _; rfl
  | succ k ih =>
    intro hk
    rw [bset, bN, ih (by omega)]
    cases P k with
    | true => exact bN_or k (by omega) _ bN_lt
    | false => exact or_0 _
theorem pcN_add : ∀ k, k < 12 → ∀ v, v < 2 ^ k → pcN (v + 2 ^ k) = pcN v + 1 := by
  intro k hk v
  have h2 := Nat.two_pow_pos k
  induction v using Nat.strongRecOn with
  | _ v ih =>
    intro hv
    rw [pcN, dif_neg (by omega)]
    by_cases h0 : v = 0
    · subst h0
      rw [Nat.zero_add, bN_p2 k hk]
    · have h1 : v &&& (v - 1) ≤ v - 1 := Nat.and_le_right
      rw [bN_and k hk v hv h0, ih (v &&& (v - 1)) (by omega) (by omega)]
      have e : pcN v = pcN (v &&& (v - 1)) + 1 := by rw [pcN, dif_neg h0]
      rw [e]
theorem pcN_bN {P : Nat → Bool} : ∀ k, k ≤ 12 → pcN (bN P k) = cntB P k := by
  intro k
  induction k with
  | zero => intro _; rw [bN, pcN]; rfl
  | succ k ih =>
    intro hk
    rw [bN, cntB]
    cases hP : P k with
    | true => rw [if_pos rfl, if_pos rfl, pcN_add k (by omega) _ bN_lt, ih (by omega)]
    | false => rw [if_neg (by decide), if_neg (by decide), Nat.add_zero, Nat.add_zero, ih (by omega)]
def opWork (S : xMS) (w p : Nat) (sc day feats e : Int32) : Int32 × xMS := if (isCs day feats && inR e (nI 0) (nI 2)) = false then (nI 0, mset S 0 6 (nI 2)) else
  if w = 12 then (nI 0, mset (mset (mset (mset S 0 6 (nI 0)) 0 6 (nI 3)) 0 7 (nI 10)) 0 8 (nI 0)) else
  (nI w, mset (mset (mset (mset (mset (push (mset S 0 6 (nI 0)) p) 1 (343 + 4 * w) sc) 1 (343 + 4 * w + 1) day) 1 (343 + 4 * w + 2) feats) 1 (343 + 4 * w + 3) e) 1 2 (nI (w + 1)))
theorem SP_X6_work_F {d : Nat} {g : xG} {m : Nat} {S : xMS} (hM : xMod g m) (n : Nat) (hn : n ≤ 10) (h0 : S 1 0 = nI n) (v : Int32) (hv : ¬ inR v (nI 0) (nI n - nI 1) = true) (a b c : Int32) : XM M_X6_work (d + 3) [.ref m, .int v, .int a, .int b, .int c] (xWith g m S) (xOne (some (.int (nI 0))) (xWith g m (mset S 0 6 (nI 1)))) := by
  refine xm_of (by decide +kernel) (Nat.le_of_ble_eq_true rfl) ?_
  show XW _ _ 0 [(0, _), (1, _), (2, _), (3, _), (4, _)] [] _ _
  refine xw_aload_n (pc := 0) dX6_work_0 0 rfl ?_
  refine xw_aload_n (pc := 1) dX6_work_1 0 rfl ?_
  refine xw_iload_n (pc := 2) dX6_work_2 1 rfl ?_
  refine xw_callV (pc := 3) (xr_V (as := [_]) ok_X6_isScope rfl (by decide) q2360 q2362 qs47 (by rw [xtag_with, hM.1]; rfl) (by rw [xtag_with, hM.1]; rfl) dX6_work_3 rfl rfl (Nat.le_of_ble_eq_true rfl)) (SP_X6_isScopeF hM n h0 (by assumption)) ?_
  refine xw_if_ne (pc := 6) 13 dX6_work_6 rfl (fun hb => absurd hb (by decide)) (fun _ => ?_)
  refine xw_iconst (v := nI 1) (pc := 9) dX6_work_9 rfl ?_
  refine xw_goto (pc := 10) 34 dX6_work_10 rfl ?_
  refine xm_putI (pc := 34) hM fd_X6_62 (xfin_of (by decide) (by decide +kernel)) dX6_work_34 ?_
  refine xw_aload_n (pc := 37) dX6_work_37 0 rfl ?_
  refine xm_getN (k := 1) (pc := 38) hM fd_X6_62 dX6_work_38 (by first | rfl | (simp [mset, mcpy]; done)) ?_
  refine xw_if_le (pc := 41) 46 dX6_work_41 rfl (fun hb => absurd hb (by decide)) (fun _ => ?_)
  refine xw_iconst (v := nI 0) (pc := 44) dX6_work_44 rfl ?_
  refine xw_iret (pc := 45) .int dX6_work_45 rfl ?_ 
  exact ⟨rfl, rfl⟩
theorem SP_X6_work {d : Nat} {g : xG} {m : Nat} {S : xMS} (hM : xMod g m) (n : Nat) (hn : n ≤ 10) (h0 : S 1 0 = nI n) (w : Nat) (hw : w ≤ 12) (h2 : S 1 2 = nI w) (p : Nat) (hp : p ≤ 8) (hpm : S 0 5 = nI p) (k : Nat) (hk : k < n) (day feats e : Int32) : XM M_X6_work (d + 3) [.ref m, .int (nI k), .int day, .int feats, .int e] (xWith g m S) (xOne (some (.int (opWork S w p (nI k) day feats e).1)) (xWith g m (opWork S w p (nI k) day feats e).2)) := by
  refine xm_of (by decide +kernel) (Nat.le_of_ble_eq_true rfl) ?_
  show XW _ _ 0 [(0, _), (1, _), (2, _), (3, _), (4, _)] [] _ _
  refine xw_aload_n (pc := 0) dX6_work_0 0 rfl ?_
  refine xw_aload_n (pc := 1) dX6_work_1 0 rfl ?_
  refine xw_iload_n (pc := 2) dX6_work_2 1 rfl ?_
  refine xw_callV (pc := 3) (xr_V (as := [_]) ok_X6_isScope rfl (by decide) q2360 q2362 qs47 (by rw [xtag_with, hM.1]; rfl) (by rw [xtag_with, hM.1]; rfl) dX6_work_3 rfl rfl (Nat.le_of_ble_eq_true rfl)) (SP_X6_isScopeK hM k n hn (by assumption) (by first | exact h0 | (simp [mset_q, mset_s, mcpy_q, mcpy_s, chg_q, chg_0, push_q, push_0]; exact h0))) ?_
  refine xw_if_ne (pc := 6) 13 dX6_work_6 rfl (fun _ => ?_) (fun hb => absurd hb (by decide))
  refine xw_iload_n (pc := 13) dX6_work_13 2 rfl ?_
  refine xw_iload_n (pc := 14) dX6_work_14 3 rfl ?_
  refine xw_callV (pc := 15) (xr_S (as := [_, _]) ok_X6_isCase rfl (by decide) q2504 q2505 dX6_work_15 rfl rfl (Nat.le_of_ble_eq_true rfl)) (SP_X6_isCase) ?_
  refine xw_if_eq (pc := 18) 29 dX6_work_18 rfl (fun hb18 => ?_) (fun hb18 => ?_)
  · replace hb18 := bI_0.mp hb18
    refine xw_iconst (v := nI 2) (pc := 29) dX6_work_29 rfl ?_
    refine xw_goto (pc := 30) 34 dX6_work_30 rfl ?_
    refine xm_putI (pc := 34) hM fd_X6_62 (xfin_of (by decide) (by decide +kernel)) dX6_work_34 ?_
    refine xw_aload_n (pc := 37) dX6_work_37 0 rfl ?_
    refine xm_getN (k := 2) (pc := 38) hM fd_X6_62 dX6_work_38 (by first | rfl | (simp [mset, mcpy]; done)) ?_
    refine xw_if_le (pc := 41) 46 dX6_work_41 rfl (fun hb => absurd hb (by decide)) (fun _ => ?_)
    refine xw_iconst (v := nI 0) (pc := 44) dX6_work_44 rfl ?_
    refine xw_iret (pc := 45) .int dX6_work_45 rfl ?_ 
    refine ⟨?_, ?_⟩ <;> simp_all [opWork, push]
  · replace hb18 := bI_n0.mp hb18
    refine xw_iload (pc := 21) dX6_work_21 4 rfl ?_
    refine xw_callV (pc := 23) (xr_S (as := [_]) ok_X6_isEffect rfl (by decide) q2415 q2416 dX6_work_23 rfl rfl (Nat.le_of_ble_eq_true rfl)) (SP_X6_isEffect) ?_
    refine xw_if_ne (pc := 26) 33 dX6_work_26 rfl (fun hb26 => ?_) (fun hb26 => ?_)
    · replace hb26 := bI_n0.mp hb26
      refine xw_iconst (v := nI 0) (pc := 33) dX6_work_33 rfl ?_
      refine xm_putI (pc := 34) hM fd_X6_62 (xfin_of (by decide) (by decide +kernel)) dX6_work_34 ?_
      refine xw_aload_n (pc := 37) dX6_work_37 0 rfl ?_
      refine xm_getN (k := 0) (pc := 38) hM fd_X6_62 dX6_work_38 (by first | rfl | (simp [mset, mcpy]; done)) ?_
      refine xw_if_le (pc := 41) 46 dX6_work_41 rfl (fun _ => ?_) (fun hb => absurd hb (by decide))
      refine xw_aload_n (pc := 46) dX6_work_46 0 rfl ?_
      refine xm_get (p := 1) (pc := 47) hM fd_X6_9 dX6_work_47 rfl ?_
      refine xw_iconst (v := nI 2) (pc := 50) dX6_work_50 rfl ?_
      refine xm_ialdN (v := w) (pc := 51) hM dX6_work_51 rfl (by omega) (by rw [mset_q (by decide)]; exact h2) ?_
      refine xw_istore (l' := [(5, _), (0, _), (1, _), (2, _), (3, _), (4, _)]) (pc := 52) dX6_work_52 (by decide) rfl ?_
      refine xw_iload (pc := 54) dX6_work_54 0 rfl ?_
      refine xw_bipush (v := nI 12) (pc := 56) dX6_work_56 (by decide +kernel) ?_
      refine xw_icmp_ne (pc := 58) 70 dX6_work_58 rfl (fun hb58 => ?_) (fun hb58 => ?_)
      · replace hb58 : ¬ (w = 12) := mt (nI_eq (a := w) (b := 12) (by omega) (by omega)).mpr hb58
        refine xw_aload_n (pc := 70) dX6_work_70 1 rfl ?_
        refine xw_callU (pc := 71) (xr_V (as := []) ok_X6_keepState rfl (by decide) q2367 q2369 qs48 (by rw [xtag_with, hM.1]; rfl) (by rw [xtag_with, hM.1]; rfl) dX6_work_71 rfl rfl (Nat.le_of_ble_eq_true rfl)) (SP_X6_keepState hM) ?_
        refine xw_aload_n (pc := 74) dX6_work_74 1 rfl ?_
        refine xw_callU (pc := 75) (xr_V (as := []) ok_X6_change rfl (by decide) q2372 q2374 qs49 (by rw [xtag_with, hM.1]; rfl) (by rw [xtag_with, hM.1]; rfl) dX6_work_75 rfl rfl (Nat.le_of_ble_eq_true rfl)) (SP_X6_change hM p hp (by simp [mset_q, mset_s, mcpy_q, mcpy_s, chg_q, chg_0, push_q, push_0]; exact hpm)) ?_
        refine xw_aload_n (pc := 78) dX6_work_78 1 rfl ?_
        refine xm_get (p := 1) (pc := 79) hM fd_X6_9 dX6_work_79 rfl ?_
        refine xw_sipush (v := nI 343) (pc := 82) dX6_work_82 (by decide +kernel) ?_
        refine xw_iconst (v := nI 4) (pc := 85) dX6_work_85 rfl ?_
        refine xw_iload (pc := 86) dX6_work_86 0 rfl ?_
        refine xn_imul (pc := 88) dX6_work_88 ?_
        refine xn_iadd (pc := 89) dX6_work_89 ?_
        refine xw_iload_n (pc := 90) dX6_work_90 2 rfl ?_
        refine xm_iast (pc := 91) hM dX6_work_91 rfl (by omega) ?_
        refine xw_aload_n (pc := 92) dX6_work_92 1 rfl ?_
        refine xm_get (p := 1) (pc := 93) hM fd_X6_9 dX6_work_93 rfl ?_
        refine xw_sipush (v := nI 343) (pc := 96) dX6_work_96 (by decide +kernel) ?_
        refine xw_iconst (v := nI 4) (pc := 99) dX6_work_99 rfl ?_
        refine xw_iload (pc := 100) dX6_work_100 0 rfl ?_
        refine xn_imul (pc := 102) dX6_work_102 ?_
        refine xn_iadd (pc := 103) dX6_work_103 ?_
        refine xw_iconst (v := nI 1) (pc := 104) dX6_work_104 rfl ?_
        refine xn_iadd (pc := 105) dX6_work_105 ?_
        refine xw_iload_n (pc := 106) dX6_work_106 3 rfl ?_
        refine xm_iast (pc := 107) hM dX6_work_107 rfl (by omega) ?_
        refine xw_aload_n (pc := 108) dX6_work_108 1 rfl ?_
        refine xm_get (p := 1) (pc := 109) hM fd_X6_9 dX6_work_109 rfl ?_
        refine xw_sipush (v := nI 343) (pc := 112) dX6_work_112 (by decide +kernel) ?_
        refine xw_iconst (v := nI 4) (pc := 115) dX6_work_115 rfl ?_
        refine xw_iload (pc := 116) dX6_work_116 0 rfl ?_
        refine xn_imul (pc := 118) dX6_work_118 ?_
        refine xn_iadd (pc := 119) dX6_work_119 ?_
        refine xw_iconst (v := nI 2) (pc := 120) dX6_work_120 rfl ?_
        refine xn_iadd (pc := 121) dX6_work_121 ?_
        refine xw_iload_n (pc := 122) dX6_work_122 4 rfl ?_
        refine xm_iast (pc := 123) hM dX6_work_123 rfl (by omega) ?_
        refine xw_aload_n (pc := 124) dX6_work_124 1 rfl ?_
        refine xm_get (p := 1) (pc := 125) hM fd_X6_9 dX6_work_125 rfl ?_
        refine xw_sipush (v := nI 343) (pc := 128) dX6_work_128 (by decide +kernel) ?_
        refine xw_iconst (v := nI 4) (pc := 131) dX6_work_131 rfl ?_
        refine xw_iload (pc := 132) dX6_work_132 0 rfl ?_
        refine xn_imul (pc := 134) dX6_work_134 ?_
        refine xn_iadd (pc := 135) dX6_work_135 ?_
        refine xw_iconst (v := nI 3) (pc := 136) dX6_work_136 rfl ?_
        refine xn_iadd (pc := 137) dX6_work_137 ?_
        refine xw_iload (pc := 138) dX6_work_138 5 rfl ?_
        refine xm_iast (pc := 140) hM dX6_work_140 rfl (by omega) ?_
        refine xw_aload_n (pc := 141) dX6_work_141 1 rfl ?_
        refine xm_get (p := 1) (pc := 142) hM fd_X6_9 dX6_work_142 rfl ?_
        refine xw_iconst (v := nI 2) (pc := 145) dX6_work_145 rfl ?_
        refine xw_dup2 (pc := 146) dX6_work_146 rfl rfl ?_
        refine xm_ialdN (v := w) (pc := 147) hM dX6_work_147 rfl (by omega) (by simp only [mset_s]; (repeat rw [if_neg (by omega)]); (try simp only [mset_q, mset_s, mcpy_q, mcpy_s, chg_q, chg_0, push_q, push_0]); (first | exact h2 | (rw [chg_q (by decide) (by decide), mcpy_q (by decide), mset_q (by decide)]; exact h2))) ?_
        refine xw_iconst (v := nI 1) (pc := 148) dX6_work_148 rfl ?_
        refine xn_iadd (pc := 149) dX6_work_149 ?_
        refine xm_iast (pc := 150) hM dX6_work_150 rfl (by omega) ?_
        refine xw_iload (pc := 151) dX6_work_151 0 rfl ?_
        refine xw_iret (pc := 153) .int dX6_work_153 rfl ?_ 
        refine ⟨?_, ?_⟩ <;> simp_all [opWork, push]
      · replace hb58 : w = 12 := (nI_eq (a := w) (b := 12) (by omega) (by omega)).mp hb58
        refine xw_aload_n (pc := 61) dX6_work_61 1 rfl ?_
        refine xw_iconst (v := nI 3) (pc := 62) dX6_work_62 rfl ?_
        refine xw_bipush (v := nI 10) (pc := 63) dX6_work_63 (by decide +kernel) ?_
        refine xw_iconst (v := nI 0) (pc := 65) dX6_work_65 rfl ?_
        refine xw_callV (pc := 66) (xr_V (as := [_, _, _]) ok_X6_refuse rfl (by decide) q2433 q2435 qs58 (by rw [xtag_with, hM.1]; rfl) (by rw [xtag_with, hM.1]; rfl) dX6_work_66 rfl rfl (Nat.le_of_ble_eq_true rfl)) (SP_X6_refuse hM) ?_
        refine xw_iret (pc := 69) .int dX6_work_69 rfl ?_ 
        refine ⟨?_, ?_⟩ <;> simp_all [opWork, push]
    · replace hb26 := bI_0.mp hb26
      refine xw_iconst (v := nI 2) (pc := 29) dX6_work_29 rfl ?_
      refine xw_goto (pc := 30) 34 dX6_work_30 rfl ?_
      refine xm_putI (pc := 34) hM fd_X6_62 (xfin_of (by decide) (by decide +kernel)) dX6_work_34 ?_
      refine xw_aload_n (pc := 37) dX6_work_37 0 rfl ?_
      refine xm_getN (k := 2) (pc := 38) hM fd_X6_62 dX6_work_38 (by first | rfl | (simp [mset, mcpy]; done)) ?_
      refine xw_if_le (pc := 41) 46 dX6_work_41 rfl (fun hb => absurd hb (by decide)) (fun _ => ?_)
      refine xw_iconst (v := nI 0) (pc := 44) dX6_work_44 rfl ?_
      refine xw_iret (pc := 45) .int dX6_work_45 rfl ?_ 
      refine ⟨?_, ?_⟩ <;> simp_all [opWork, push]
def opDrop (S : xMS) (w p k : Nat) : xMS := mcpy (mset (push (mset S 0 6 (nI 0)) p) 1 2 (nI (w - 1))) 1 1 (343 + 4 * k + 4) (343 + 4 * k) (4 * (w - 1 - k))
theorem SP_X6_dropCase_F {d : Nat} {g : xG} {m : Nat} {S : xMS} (hM : xMod g m) (w : Nat) (hw : w ≤ 12) (h2 : S 1 2 = nI w) (v : Int32) (hv : ¬ inR v (nI 0) (nI w - nI 1) = true) : XM M_X6_dropCase (d + 2) [.ref m, .int v] (xWith g m S) (xOne (some (.int (nI 0))) (xWith g m (mset S 0 6 (nI 1)))) := by
  refine xm_of (by decide +kernel) (Nat.le_of_ble_eq_true rfl) ?_
  show XW _ _ 0 [(0, _), (1, _)] [] _ _
  refine xw_aload_n (pc := 0) dX6_dropCase_0 0 rfl ?_
  refine xw_aload_n (pc := 1) dX6_dropCase_1 0 rfl ?_
  refine xw_iload_n (pc := 2) dX6_dropCase_2 1 rfl ?_
  refine xw_callV (pc := 3) (xr_V (as := [_]) ok_X6_isWork rfl (by decide) q2590 q2592 qs76 (by rw [xtag_with, hM.1]; rfl) (by rw [xtag_with, hM.1]; rfl) dX6_dropCase_3 rfl rfl (Nat.le_of_ble_eq_true rfl)) (SP_X6_isWorkF hM w h2 (by assumption)) ?_
  refine xw_if_eq (pc := 6) 13 dX6_dropCase_6 rfl (fun _ => ?_) (fun hb => absurd hb (by decide))
  refine xw_iconst (v := nI 1) (pc := 13) dX6_dropCase_13 rfl ?_
  refine xm_putI (pc := 14) hM fd_X6_62 (xfin_of (by decide) (by decide +kernel)) dX6_dropCase_14 ?_
  refine xw_aload_n (pc := 17) dX6_dropCase_17 0 rfl ?_
  refine xm_getN (k := 1) (pc := 18) hM fd_X6_62 dX6_dropCase_18 (by first | rfl | (simp [mset, mcpy]; done)) ?_
  refine xw_if_le (pc := 21) 26 dX6_dropCase_21 rfl (fun hb => absurd hb (by decide)) (fun _ => ?_)
  refine xw_iconst (v := nI 0) (pc := 24) dX6_dropCase_24 rfl ?_
  refine xw_iret (pc := 25) .int dX6_dropCase_25 rfl ?_ 
  exact ⟨rfl, rfl⟩
theorem SP_X6_dropCase {d : Nat} {g : xG} {m : Nat} {S : xMS} (hM : xMod g m) (w : Nat) (hw : w ≤ 12) (h2 : S 1 2 = nI w) (p : Nat) (hp : p ≤ 8) (hpm : S 0 5 = nI p) (k : Nat) (hk : k < w) : XM M_X6_dropCase (d + 2) [.ref m, .int (nI k)] (xWith g m S) (xOne (some (.int (nI (w - 1)))) (xWith g m (opDrop S w p k))) := by
  refine xm_of (by decide +kernel) (Nat.le_of_ble_eq_true rfl) ?_
  show XW _ _ 0 [(0, _), (1, _)] [] _ _
  refine xw_aload_n (pc := 0) dX6_dropCase_0 0 rfl ?_
  refine xw_aload_n (pc := 1) dX6_dropCase_1 0 rfl ?_
  refine xw_iload_n (pc := 2) dX6_dropCase_2 1 rfl ?_
  refine xw_callV (pc := 3) (xr_V (as := [_]) ok_X6_isWork rfl (by decide) q2590 q2592 qs76 (by rw [xtag_with, hM.1]; rfl) (by rw [xtag_with, hM.1]; rfl) dX6_dropCase_3 rfl rfl (Nat.le_of_ble_eq_true rfl)) (SP_X6_isWorkK hM k w (by omega) (by assumption) h2) ?_
  refine xw_if_eq (pc := 6) 13 dX6_dropCase_6 rfl (fun hb => absurd hb (by decide)) (fun _ => ?_)
  refine xw_iconst (v := nI 0) (pc := 9) dX6_dropCase_9 rfl ?_
  refine xw_goto (pc := 10) 14 dX6_dropCase_10 rfl ?_
  refine xm_putI (pc := 14) hM fd_X6_62 (xfin_of (by decide) (by decide +kernel)) dX6_dropCase_14 ?_
  refine xw_aload_n (pc := 17) dX6_dropCase_17 0 rfl ?_
  refine xm_getN (k := 0) (pc := 18) hM fd_X6_62 dX6_dropCase_18 (by first | rfl | (simp [mset, mcpy]; done)) ?_
  refine xw_if_le (pc := 21) 26 dX6_dropCase_21 rfl (fun _ => ?_) (fun hb => absurd hb (by decide))
  refine xw_aload_n (pc := 26) dX6_dropCase_26 0 rfl ?_
  refine xw_callU (pc := 27) (xr_V (as := []) ok_X6_keepState rfl (by decide) q2367 q2369 qs48 (by rw [xtag_with, hM.1]; rfl) (by rw [xtag_with, hM.1]; rfl) dX6_dropCase_27 rfl rfl (Nat.le_of_ble_eq_true rfl)) (SP_X6_keepState hM) ?_
  refine xw_aload_n (pc := 30) dX6_dropCase_30 0 rfl ?_
  refine xw_callU (pc := 31) (xr_V (as := []) ok_X6_change rfl (by decide) q2372 q2374 qs49 (by rw [xtag_with, hM.1]; rfl) (by rw [xtag_with, hM.1]; rfl) dX6_dropCase_31 rfl rfl (Nat.le_of_ble_eq_true rfl)) (SP_X6_change hM p hp (by simp [mset_q, mset_s, mcpy_q, mcpy_s, chg_q, chg_0, push_q, push_0]; exact hpm)) ?_
  refine xw_aload_n (pc := 34) dX6_dropCase_34 0 rfl ?_
  refine xm_get (p := 1) (pc := 35) hM fd_X6_9 dX6_dropCase_35 rfl ?_
  refine xw_iconst (v := nI 2) (pc := 38) dX6_dropCase_38 rfl ?_
  refine xw_dup2 (pc := 39) dX6_dropCase_39 rfl rfl ?_
  refine xm_ialdN (v := w) (pc := 40) hM dX6_dropCase_40 rfl (by omega) (by simp [mset_q, mset_s, mcpy_q, mcpy_s, chg_q, chg_0, push_q, push_0, h2]) ?_
  refine xw_iconst (v := nI 1) (pc := 41) dX6_dropCase_41 rfl ?_
  refine xn_isub (pc := 42) dX6_dropCase_42 (by omega) ?_
  refine xm_iast (pc := 43) hM dX6_dropCase_43 rfl (by omega) ?_
  refine xw_aload_n (pc := 44) dX6_dropCase_44 0 rfl ?_
  refine xm_get (p := 1) (pc := 45) hM fd_X6_9 dX6_dropCase_45 rfl ?_
  refine xw_sipush (v := nI 343) (pc := 48) dX6_dropCase_48 (by decide +kernel) ?_
  refine xw_iconst (v := nI 4) (pc := 51) dX6_dropCase_51 rfl ?_
  refine xw_iload_n (pc := 52) dX6_dropCase_52 1 rfl ?_
  refine xn_imul (pc := 53) dX6_dropCase_53 ?_
  refine xn_iadd (pc := 54) dX6_dropCase_54 ?_
  refine xw_iconst (v := nI 4) (pc := 55) dX6_dropCase_55 rfl ?_
  refine xn_iadd (pc := 56) dX6_dropCase_56 ?_
  refine xw_aload_n (pc := 57) dX6_dropCase_57 0 rfl ?_
  refine xm_get (p := 1) (pc := 58) hM fd_X6_9 dX6_dropCase_58 rfl ?_
  refine xw_sipush (v := nI 343) (pc := 61) dX6_dropCase_61 (by decide +kernel) ?_
  refine xw_iconst (v := nI 4) (pc := 64) dX6_dropCase_64 rfl ?_
  refine xw_iload_n (pc := 65) dX6_dropCase_65 1 rfl ?_
  refine xn_imul (pc := 66) dX6_dropCase_66 ?_
  refine xn_iadd (pc := 67) dX6_dropCase_67 ?_
  refine xw_iconst (v := nI 4) (pc := 68) dX6_dropCase_68 rfl ?_
  refine xw_aload_n (pc := 69) dX6_dropCase_69 0 rfl ?_
  refine xm_get (p := 1) (pc := 70) hM fd_X6_9 dX6_dropCase_70 rfl ?_
  refine xw_iconst (v := nI 2) (pc := 73) dX6_dropCase_73 rfl ?_
  refine xm_ialdN (v := (w - 1)) (pc := 74) hM dX6_dropCase_74 rfl (by omega) (by rw [mset_s, if_pos rfl]) ?_
  refine xw_iload_n (pc := 75) dX6_dropCase_75 1 rfl ?_
  refine xn_isub (pc := 76) dX6_dropCase_76 (by omega) ?_
  refine xn_imul (pc := 77) dX6_dropCase_77 ?_
  refine xm_copy (pc := 78) hM dX6_dropCase_78 q2371 rfl rfl (by decide) (by omega) (by omega) (Nat.le_of_ble_eq_true rfl) ?_
  refine xw_aload_n (pc := 81) dX6_dropCase_81 0 rfl ?_
  refine xm_get (p := 1) (pc := 82) hM fd_X6_9 dX6_dropCase_82 rfl ?_
  refine xw_iconst (v := nI 2) (pc := 85) dX6_dropCase_85 rfl ?_
  refine xm_ialdN (v := (w - 1)) (pc := 86) hM dX6_dropCase_86 rfl (by omega) (by rw [mcpy_s]; unfold va_cpy; rw [if_neg (by omega), mset_s, if_pos rfl]) ?_
  refine xw_iret (pc := 87) .int dX6_dropCase_87 rfl ?_ 
  exact ⟨rfl, rfl⟩
def wrP (S : xMS) (rr z : Nat) : Bool := !wRt (S 1) (S 0 14) rr z
theorem SP_X6_wrong {d : Nat} {g : xG} {m : Nat} {S : xMS} (hM : xMod g m) (n rr w : Nat) (hn : n ≤ 10) (hr : rr ≤ 16) (hw : w ≤ 12) (h1 : S 1 1 = nI rr) (h2 : S 1 2 = nI w) (hW : WFo (S 1) n) (hWr : WFr (S 1) n rr) (hWw : WFw (S 1) n w) (h4 : ¬ S 1 4 < 0) : XM M_X6_wrong (d + 8) [.ref m] (xWith g m S) (xLk g m (mset S 0 6 (nI 0)) (bset (fun z => !wRt (S 1) (S 0 14) rr z) w)) := by
  have e1 : (mset S 0 6 (nI 0)) 1 = S 1 := mset_q (by decide)
  have hx := SP_X6_wrongSet (d := d) (S := mset S 0 6 (nI 0)) hM n rr w hn hr hw (by rw [e1]; exact h1) (by rw [e1]; exact h2) (by rw [e1]; exact hW) (by rw [e1]; exact hWr) (by rw [e1]; exact hWw) (by rw [e1]; exact h4) _ (fun _ _ _ => rfl)
  simp only [e1] at hx
  refine xm_of (by decide +kernel) (Nat.le_of_ble_eq_true rfl) ?_
  show XW _ _ 0 [(0, _)] [] _ _
  refine xw_aload_n (pc := 0) dX6_wrong_0 0 rfl ?_
  refine xw_iconst (v := nI 0) (pc := 1) dX6_wrong_1 rfl ?_
  refine xm_putI (pc := 2) hM fd_X6_62 (xfin_of (by decide) (by decide +kernel)) dX6_wrong_2 ?_
  refine xw_aload_n (pc := 5) dX6_wrong_5 0 rfl ?_
  refine xw_callL (pc := 6) (xr_V (as := []) ok_X6_wrongSet rfl (by decide) q2614 q2616 qs80 (by rw [xtag_with, hM.1]; rfl) (by rw [xtag_with, hM.1]; rfl) dX6_wrong_6 rfl rfl (Nat.le_of_ble_eq_true rfl)) (hx) ?_
  intro T2 hT2
  have e2 : T2 1 = S 1 := hT2 1 (by decide) (by decide)
  refine xw_iret (pc := 9) .int dX6_wrong_9 rfl ?_ 
  exact ⟨rfl, T2, hT2, rfl⟩
theorem SP_X6_caseOf_F {d : Nat} {g : xG} {m : Nat} {S : xMS} (hM : xMod g m) (w : Nat) (hw : w ≤ 12) (h2 : S 1 2 = nI w) (v : Int32) (hv : ¬ inR v (nI 0) (nI w - nI 1) = true) (e : Int32) : XM M_X6_caseOf (d + 2) [.ref m, .int v, .int e] (xWith g m S) (xOne (some (.int (nI 0))) (xWith g m (mset S 0 6 (nI 1)))) := by
  refine xm_of (by decide +kernel) (Nat.le_of_ble_eq_true rfl) ?_
  show XW _ _ 0 [(0, _), (1, _), (2, _)] [] _ _
  refine xw_aload_n (pc := 0) dX6_caseOf_0 0 rfl ?_
  refine xw_aload_n (pc := 1) dX6_caseOf_1 0 rfl ?_
  refine xw_iload_n (pc := 2) dX6_caseOf_2 1 rfl ?_
  refine xw_callV (pc := 3) (xr_V (as := [_]) ok_X6_isWork rfl (by decide) q2590 q2592 qs76 (by rw [xtag_with, hM.1]; rfl) (by rw [xtag_with, hM.1]; rfl) dX6_caseOf_3 rfl rfl (Nat.le_of_ble_eq_true rfl)) (SP_X6_isWorkF hM w h2 (by assumption)) ?_
  refine xw_if_ne (pc := 6) 13 dX6_caseOf_6 rfl (fun hb => absurd hb (by decide)) (fun _ => ?_)
  refine xw_iconst (v := nI 1) (pc := 9) dX6_caseOf_9 rfl ?_
  refine xw_goto (pc := 10) 28 dX6_caseOf_10 rfl ?_
  refine xm_putI (pc := 28) hM fd_X6_62 (xfin_of (by decide) (by decide +kernel)) dX6_caseOf_28 ?_
  refine xw_aload_n (pc := 31) dX6_caseOf_31 0 rfl ?_
  refine xm_getN (k := 1) (pc := 32) hM fd_X6_62 dX6_caseOf_32 (by first | rfl | (simp [mset, mcpy]; done)) ?_
  refine xw_if_le (pc := 35) 40 dX6_caseOf_35 rfl (fun hb => absurd hb (by decide)) (fun _ => ?_)
  refine xw_iconst (v := nI 0) (pc := 38) dX6_caseOf_38 rfl ?_
  refine xw_iret (pc := 39) .int dX6_caseOf_39 rfl ?_ 
  exact ⟨rfl, rfl⟩
theorem SP_X6_caseOf_F2 {d : Nat} {g : xG} {m : Nat} {S : xMS} (hM : xMod g m) (w : Nat) (hw : w ≤ 12) (h2 : S 1 2 = nI w) (k : Nat) (hk : k < w) (e : Int32) (he : ¬ inR e (nI 0) (nI 6) = true) : XM M_X6_caseOf (d + 2) [.ref m, .int (nI k), .int e] (xWith g m S) (xOne (some (.int (nI 0))) (xWith g m (mset S 0 6 (nI 2)))) := by
  refine xm_of (by decide +kernel) (Nat.le_of_ble_eq_true rfl) ?_
  show XW _ _ 0 [(0, _), (1, _), (2, _)] [] _ _
  refine xw_aload_n (pc := 0) dX6_caseOf_0 0 rfl ?_
  refine xw_aload_n (pc := 1) dX6_caseOf_1 0 rfl ?_
  refine xw_iload_n (pc := 2) dX6_caseOf_2 1 rfl ?_
  refine xw_callV (pc := 3) (xr_V (as := [_]) ok_X6_isWork rfl (by decide) q2590 q2592 qs76 (by rw [xtag_with, hM.1]; rfl) (by rw [xtag_with, hM.1]; rfl) dX6_caseOf_3 rfl rfl (Nat.le_of_ble_eq_true rfl)) (SP_X6_isWorkK hM k w (by omega) (by assumption) h2) ?_
  refine xw_if_ne (pc := 6) 13 dX6_caseOf_6 rfl (fun _ => ?_) (fun hb => absurd hb (by decide))
  refine xw_iload_n (pc := 13) dX6_caseOf_13 2 rfl ?_
  refine xw_iconst (v := nI 0) (pc := 14) dX6_caseOf_14 rfl ?_
  refine xw_bipush (v := nI 6) (pc := 15) dX6_caseOf_15 (by decide +kernel) ?_
  refine xw_callV (pc := 17) (xr_S (as := [_, _, _]) ok_X6_in rfl (by decide) q2364 q2365 dX6_caseOf_17 rfl rfl (Nat.le_of_ble_eq_true rfl)) (SP_X6_inF (by assumption)) ?_
  refine xw_if_ne (pc := 20) 27 dX6_caseOf_20 rfl (fun hb => absurd hb (by decide)) (fun _ => ?_)
  refine xw_iconst (v := nI 2) (pc := 23) dX6_caseOf_23 rfl ?_
  refine xw_goto (pc := 24) 28 dX6_caseOf_24 rfl ?_
  refine xm_putI (pc := 28) hM fd_X6_62 (xfin_of (by decide) (by decide +kernel)) dX6_caseOf_28 ?_
  refine xw_aload_n (pc := 31) dX6_caseOf_31 0 rfl ?_
  refine xm_getN (k := 2) (pc := 32) hM fd_X6_62 dX6_caseOf_32 (by first | rfl | (simp [mset, mcpy]; done)) ?_
  refine xw_if_le (pc := 35) 40 dX6_caseOf_35 rfl (fun hb => absurd hb (by decide)) (fun _ => ?_)
  refine xw_iconst (v := nI 0) (pc := 38) dX6_caseOf_38 rfl ?_
  refine xw_iret (pc := 39) .int dX6_caseOf_39 rfl ?_ 
  exact ⟨rfl, rfl⟩
/-- but for the looked-at rows and the chain -/
def lkC (S T : xMS) : Prop := (∀ p, p ≠ 0 → p ≠ 6 → p ≠ 7 → p ≠ 8 → T p = S p) ∧ ∀ j, j ≠ 16 → T 0 j = S 0 j
theorem lkC_eq {S T : xMS} (h : lkEq S T) : lkC S T := ⟨fun p _ h6 h7 _ => h p h6 h7, fun j _ => by rw [h 0 (by decide) (by decide)]⟩
theorem lkC_rf {S : xMS} : lkC S S := ⟨fun _ _ _ _ _ => rfl, fun _ _ => rfl⟩
theorem lkC_chn {S T : xMS} {C H : Nat → Bool} {a b : Nat} {L : List Nat} (h : lkC S T) : lkC S (chnS (lookP T C H a b) L) := ⟨fun p h0 h6 h7 h8 => (chnS_q h8 h0).trans ((lookP_q h6 h7).trans (h.1 p h0 h6 h7 h8)), fun j hj => by
  rw [chnS_0, if_neg hj, lookP_q (by decide) (by decide)]
  exact h.2 j hj⟩
/-- an answer, and the state but for that -/
def xLkC (g : xG) (m : Nat) (S : xMS) (v : Int32) (rs : Option Value ⊕ Nat) (g' : xG) : Prop := rs = .inl (some (.int v)) ∧ ∃ T, lkC S T ∧ g' = xWith g m T
/-- the chain of a worked case -/
def wCh (s : Nat → Int32) (wo : Int32) (rr k : Nat) : List Nat := chn s (cov s wo (aN s (343 + 4 * k)) (s (343 + 4 * k + 1)) (s (343 + 4 * k + 2))) (hld (isPa s) rr (cov s wo (aN s (343 + 4 * k)) (s (343 + 4 * k + 1)) (s (343 + 4 * k + 2)))) rr
theorem SP_X6_findChainOfWork {d : Nat} {g : xG} {m : Nat} {S : xMS} (hM : xMod g m) (n rr w : Nat) (hn : n ≤ 10) (hr : rr ≤ 16) (hw : w ≤ 12) (h1 : S 1 1 = nI rr) (h2 : S 1 2 = nI w) (hW : WFo (S 1) n) (hWr : WFr (S 1) n rr) (hWw : WFw (S 1) n w) (h4 : ¬ S 1 4 < 0) (k : Nat) (hk : k < w) (T : xMS) (hT : lkC S T) : XM M_X6_findChainOfWork (d + 5) [.ref m, .int (nI k)] (xWith g m T) (fun rs g' => rs = .inl none ∧ ∃ T2, lkC S T2 ∧ g' = xWith g m T2 ∧ T2 0 16 = nI (wCh (S 1) (S 0 14) rr k).length ∧ ∀ j, j < (wCh (S 1) (S 0 14) rr k).length → T2 8 j = nI ((wCh (S 1) (S 0 14) rr k).getD j 0)) := by
  have e1 : T 1 = S 1 := hT.1 1 (by decide) (by decide) (by decide) (by decide)
  have e0 : T 0 14 = S 0 14 := hT.2 14 (by decide)
  obtain ⟨s1, s2⟩ := hWw k hk
  have hx := SP_X6_findChain (d := d) (S := T) hM n rr (aN (S 1) (343 + 4 * k)) hn hr s2 (by rw [e1]; exact h1) (by rw [e1]; exact hW) (by rw [e1]; exact hWr) (S 1 (343 + 4 * k + 1)) (S 1 (343 + 4 * k + 2)) _ _ rfl rfl
  simp only [e1, e0] at hx
  refine xm_of (by decide +kernel) (Nat.le_of_ble_eq_true rfl) ?_
  show XW _ _ 0 [(0, _), (1, _)] [] _ _
  refine xw_sipush (v := nI 343) (pc := 0) dX6_findChainOfWork_0 (by decide +kernel) ?_
  refine xw_iconst (v := nI 4) (pc := 3) dX6_findChainOfWork_3 rfl ?_
  refine xw_iload_n (pc := 4) dX6_findChainOfWork_4 1 rfl ?_
  refine xn_imul (pc := 5) dX6_findChainOfWork_5 ?_
  refine xn_iadd (pc := 6) dX6_findChainOfWork_6 ?_
  refine xw_istore_n (l' := [(2, _), (0, _), (1, _)]) (pc := 7) dX6_findChainOfWork_7 rfl (by decide) rfl ?_
  refine xw_aload_n (pc := 8) dX6_findChainOfWork_8 1 rfl ?_
  refine xw_aload_n (pc := 9) dX6_findChainOfWork_9 1 rfl ?_
  refine xm_get (p := 1) (pc := 10) hM fd_X6_9 dX6_findChainOfWork_10 rfl ?_
  refine xw_iload_n (pc := 13) dX6_findChainOfWork_13 0 rfl ?_
  refine xm_ialdN (v := aN (S 1) (343 + 4 * k)) (pc := 14) hM dX6_findChainOfWork_14 rfl (by omega) (by rw [e1]; exact s1) ?_
  refine xw_aload_n (pc := 15) dX6_findChainOfWork_15 1 rfl ?_
  refine xm_get (p := 1) (pc := 16) hM fd_X6_9 dX6_findChainOfWork_16 rfl ?_
  refine xw_iload_n (pc := 19) dX6_findChainOfWork_19 0 rfl ?_
  refine xw_iconst (v := nI 1) (pc := 20) dX6_findChainOfWork_20 rfl ?_
  refine xn_iadd (pc := 21) dX6_findChainOfWork_21 ?_
  refine xm_iald (pc := 22) hM dX6_findChainOfWork_22 rfl (by omega) ?_
  refine xw_aload_n (pc := 23) dX6_findChainOfWork_23 1 rfl ?_
  refine xm_get (p := 1) (pc := 24) hM fd_X6_9 dX6_findChainOfWork_24 rfl ?_
  refine xw_iload_n (pc := 27) dX6_findChainOfWork_27 0 rfl ?_
  refine xw_iconst (v := nI 2) (pc := 28) dX6_findChainOfWork_28 rfl ?_
  refine xn_iadd (pc := 29) dX6_findChainOfWork_29 ?_
  refine xm_iald (pc := 30) hM dX6_findChainOfWork_30 rfl (by omega) ?_
  rw [e1]
  refine xw_callU (pc := 31) (xr_V (as := [_, _, _]) ok_X6_findChain rfl (by decide) q2548 q2550 qs73 (by rw [xtag_with, hM.1]; rfl) (by rw [xtag_with, hM.1]; rfl) dX6_findChainOfWork_31 rfl rfl (Nat.le_of_ble_eq_true rfl)) (hx) ?_
  refine xw_vret (pc := 34) dX6_findChainOfWork_34 rfl ?_
  exact ⟨rfl, _, lkC_chn hT, rfl, by rw [chnS_0, if_pos rfl]; rfl, fun j hj => chnS_8 hj⟩
theorem SP_X6_caseOf {d : Nat} {g : xG} {m : Nat} {S : xMS} (hM : xMod g m) (n rr w : Nat) (hn : n ≤ 10) (hr : rr ≤ 16) (hw : w ≤ 12) (h1 : S 1 1 = nI rr) (h2 : S 1 2 = nI w) (hW : WFo (S 1) n) (hWr : WFr (S 1) n rr) (hWw : WFw (S 1) n w) (h4 : ¬ S 1 4 < 0) (k x : Nat) (hk : k < w) (hx : x ≤ 6) : XM M_X6_caseOf (d + 7) [.ref m, .int (nI k), .int (nI x)] (xWith g m S) (xLkC g m (mset S 0 6 (nI 0)) (if x = 4 then wOut (S 1) (S 0 14) rr k else if x = 5 then bI (wRt (S 1) (S 0 14) rr k) else if x = 6 then nI (wCh (S 1) (S 0 14) rr k).length else S 1 (343 + 4 * k + x))) := by
  have e1 : (mset S 0 6 (nI 0)) 1 = S 1 := mset_q (by decide)
  have hin := inR_nat' (k := x) (b := 6) (by decide) hx
  have ho := SP_X6_outcomeOfWork (d := d + 1) (S := mset S 0 6 (nI 0)) hM n rr w hn hr hw (by rw [e1]; exact h1) (by rw [e1]; exact h2) (by rw [e1]; exact hW) (by rw [e1]; exact hWr) (by rw [e1]; exact hWw) (by rw [e1]; exact h4) k hk _ (fun _ _ _ => rfl)
  have hrt := SP_X6_isRight (d := d) (S := mset S 0 6 (nI 0)) hM n rr w hn hr hw (by rw [e1]; exact h1) (by rw [e1]; exact h2) (by rw [e1]; exact hW) (by rw [e1]; exact hWr) (by rw [e1]; exact hWw) (by rw [e1]; exact h4) k hk _ (fun _ _ _ => rfl)
  have hfc := SP_X6_findChainOfWork (d := d + 1) (S := mset S 0 6 (nI 0)) hM n rr w hn hr hw (by rw [e1]; exact h1) (by rw [e1]; exact h2) (by rw [e1]; exact hW) (by rw [e1]; exact hWr) (by rw [e1]; exact hWw) (by rw [e1]; exact h4) k hk _ lkC_rf
  have e014 : mset S 0 6 (nI 0) 0 14 = S 0 14 := rfl
  simp only [e1, e014] at ho hrt hfc
  by_cases x4 : x = 4
  · subst x4
    refine xm_of (by decide +kernel) (Nat.le_of_ble_eq_true rfl) ?_
    show XW _ _ 0 [(0, _), (1, _), (2, _)] [] _ _
    refine xw_aload_n (pc := 0) dX6_caseOf_0 0 rfl ?_
    refine xw_aload_n (pc := 1) dX6_caseOf_1 0 rfl ?_
    refine xw_iload_n (pc := 2) dX6_caseOf_2 1 rfl ?_
    refine xw_callV (pc := 3) (xr_V (as := [_]) ok_X6_isWork rfl (by decide) q2590 q2592 qs76 (by rw [xtag_with, hM.1]; rfl) (by rw [xtag_with, hM.1]; rfl) dX6_caseOf_3 rfl rfl (Nat.le_of_ble_eq_true rfl)) (SP_X6_isWorkK hM k w (by omega) (by assumption) h2) ?_
    refine xw_if_ne (pc := 6) 13 dX6_caseOf_6 rfl (fun _ => ?_) (fun hb => absurd hb (by decide))
    refine xw_iload_n (pc := 13) dX6_caseOf_13 2 rfl ?_
    refine xw_iconst (v := nI 0) (pc := 14) dX6_caseOf_14 rfl ?_
    refine xw_bipush (v := nI 6) (pc := 15) dX6_caseOf_15 (by decide +kernel) ?_
    refine xw_callV (pc := 17) (xr_S (as := [_, _, _]) ok_X6_in rfl (by decide) q2364 q2365 dX6_caseOf_17 rfl rfl (Nat.le_of_ble_eq_true rfl)) (SP_X6_inT (by assumption)) ?_
    refine xw_if_ne (pc := 20) 27 dX6_caseOf_20 rfl (fun _ => ?_) (fun hb => absurd hb (by decide))
    refine xw_iconst (v := nI 0) (pc := 27) dX6_caseOf_27 rfl ?_
    refine xm_putI (pc := 28) hM fd_X6_62 (xfin_of (by decide) (by decide +kernel)) dX6_caseOf_28 ?_
    refine xw_aload_n (pc := 31) dX6_caseOf_31 0 rfl ?_
    refine xm_getN (k := 0) (pc := 32) hM fd_X6_62 dX6_caseOf_32 (by first | rfl | (simp [mset, mcpy]; done)) ?_
    refine xw_if_le (pc := 35) 40 dX6_caseOf_35 rfl (fun _ => ?_) (fun hb => absurd hb (by decide))
    refine xw_iload_n (pc := 40) dX6_caseOf_40 2 rfl ?_
    refine xw_tableIn (x := nI 4) (pc := 41) 68 dX6_caseOf_41 (by decide) (by decide) rfl rfl ?_
    refine xw_aload_n (pc := 68) dX6_caseOf_68 0 rfl ?_
    refine xw_iload_n (pc := 69) dX6_caseOf_69 1 rfl ?_
    refine xw_callL (pc := 70) (xr_V (as := [_]) ok_X6_outcomeOfWork rfl (by decide) q2594 q2596 qs77 (by rw [xtag_with, hM.1]; rfl) (by rw [xtag_with, hM.1]; rfl) dX6_caseOf_70 rfl rfl (Nat.le_of_ble_eq_true rfl)) (ho) ?_
    intro T2 hT2
    have e2 : T2 1 = S 1 := hT2 1 (by decide) (by decide)
    refine xw_iret (pc := 73) .int dX6_caseOf_73 rfl ?_ 
    exact ⟨rfl, T2, lkC_eq hT2, rfl⟩
  by_cases x5 : x = 5
  · subst x5
    refine xm_of (by decide +kernel) (Nat.le_of_ble_eq_true rfl) ?_
    show XW _ _ 0 [(0, _), (1, _), (2, _)] [] _ _
    refine xw_aload_n (pc := 0) dX6_caseOf_0 0 rfl ?_
    refine xw_aload_n (pc := 1) dX6_caseOf_1 0 rfl ?_
    refine xw_iload_n (pc := 2) dX6_caseOf_2 1 rfl ?_
    refine xw_callV (pc := 3) (xr_V (as := [_]) ok_X6_isWork rfl (by decide) q2590 q2592 qs76 (by rw [xtag_with, hM.1]; rfl) (by rw [xtag_with, hM.1]; rfl) dX6_caseOf_3 rfl rfl (Nat.le_of_ble_eq_true rfl)) (SP_X6_isWorkK hM k w (by omega) (by assumption) h2) ?_
    refine xw_if_ne (pc := 6) 13 dX6_caseOf_6 rfl (fun _ => ?_) (fun hb => absurd hb (by decide))
    refine xw_iload_n (pc := 13) dX6_caseOf_13 2 rfl ?_
    refine xw_iconst (v := nI 0) (pc := 14) dX6_caseOf_14 rfl ?_
    refine xw_bipush (v := nI 6) (pc := 15) dX6_caseOf_15 (by decide +kernel) ?_
    refine xw_callV (pc := 17) (xr_S (as := [_, _, _]) ok_X6_in rfl (by decide) q2364 q2365 dX6_caseOf_17 rfl rfl (Nat.le_of_ble_eq_true rfl)) (SP_X6_inT (by assumption)) ?_
    refine xw_if_ne (pc := 20) 27 dX6_caseOf_20 rfl (fun _ => ?_) (fun hb => absurd hb (by decide))
    refine xw_iconst (v := nI 0) (pc := 27) dX6_caseOf_27 rfl ?_
    refine xm_putI (pc := 28) hM fd_X6_62 (xfin_of (by decide) (by decide +kernel)) dX6_caseOf_28 ?_
    refine xw_aload_n (pc := 31) dX6_caseOf_31 0 rfl ?_
    refine xm_getN (k := 0) (pc := 32) hM fd_X6_62 dX6_caseOf_32 (by first | rfl | (simp [mset, mcpy]; done)) ?_
    refine xw_if_le (pc := 35) 40 dX6_caseOf_35 rfl (fun _ => ?_) (fun hb => absurd hb (by decide))
    refine xw_iload_n (pc := 40) dX6_caseOf_40 2 rfl ?_
    refine xw_tableIn (x := nI 5) (pc := 41) 74 dX6_caseOf_41 (by decide) (by decide) rfl rfl ?_
    refine xw_aload_n (pc := 74) dX6_caseOf_74 0 rfl ?_
    refine xw_iload_n (pc := 75) dX6_caseOf_75 1 rfl ?_
    refine xw_callL (pc := 76) (xr_V (as := [_]) ok_X6_isRight rfl (by decide) q2598 q2600 qs78 (by rw [xtag_with, hM.1]; rfl) (by rw [xtag_with, hM.1]; rfl) dX6_caseOf_76 rfl rfl (Nat.le_of_ble_eq_true rfl)) (hrt) ?_
    intro T2 hT2
    have e2 : T2 1 = S 1 := hT2 1 (by decide) (by decide)
    refine xw_if_eq (pc := 79) 86 dX6_caseOf_79 rfl (fun hb79 => ?_) (fun hb79 => ?_)
    · replace hb79 := bI_0.mp hb79
      refine xw_iconst (v := nI 0) (pc := 86) dX6_caseOf_86 rfl ?_
      refine xw_iret (pc := 87) .int dX6_caseOf_87 rfl ?_ 
      rw [if_neg (by decide), if_pos rfl, hb79]
      exact ⟨rfl, T2, lkC_eq hT2, rfl⟩
    · replace hb79 := bI_n0.mp hb79
      refine xw_iconst (v := nI 1) (pc := 82) dX6_caseOf_82 rfl ?_
      refine xw_goto (pc := 83) 87 dX6_caseOf_83 rfl ?_
      refine xw_iret (pc := 87) .int dX6_caseOf_87 rfl ?_ 
      rw [if_neg (by decide), if_pos rfl, hb79]
      exact ⟨rfl, T2, lkC_eq hT2, rfl⟩
  by_cases x6 : x = 6
  · subst x6
    refine xm_of (by decide +kernel) (Nat.le_of_ble_eq_true rfl) ?_
    show XW _ _ 0 [(0, _), (1, _), (2, _)] [] _ _
    refine xw_aload_n (pc := 0) dX6_caseOf_0 0 rfl ?_
    refine xw_aload_n (pc := 1) dX6_caseOf_1 0 rfl ?_
    refine xw_iload_n (pc := 2) dX6_caseOf_2 1 rfl ?_
    refine xw_callV (pc := 3) (xr_V (as := [_]) ok_X6_isWork rfl (by decide) q2590 q2592 qs76 (by rw [xtag_with, hM.1]; rfl) (by rw [xtag_with, hM.1]; rfl) dX6_caseOf_3 rfl rfl (Nat.le_of_ble_eq_true rfl)) (SP_X6_isWorkK hM k w (by omega) (by assumption) h2) ?_
    refine xw_if_ne (pc := 6) 13 dX6_caseOf_6 rfl (fun _ => ?_) (fun hb => absurd hb (by decide))
    refine xw_iload_n (pc := 13) dX6_caseOf_13 2 rfl ?_
    refine xw_iconst (v := nI 0) (pc := 14) dX6_caseOf_14 rfl ?_
    refine xw_bipush (v := nI 6) (pc := 15) dX6_caseOf_15 (by decide +kernel) ?_
    refine xw_callV (pc := 17) (xr_S (as := [_, _, _]) ok_X6_in rfl (by decide) q2364 q2365 dX6_caseOf_17 rfl rfl (Nat.le_of_ble_eq_true rfl)) (SP_X6_inT (by assumption)) ?_
    refine xw_if_ne (pc := 20) 27 dX6_caseOf_20 rfl (fun _ => ?_) (fun hb => absurd hb (by decide))
    refine xw_iconst (v := nI 0) (pc := 27) dX6_caseOf_27 rfl ?_
    refine xm_putI (pc := 28) hM fd_X6_62 (xfin_of (by decide) (by decide +kernel)) dX6_caseOf_28 ?_
    refine xw_aload_n (pc := 31) dX6_caseOf_31 0 rfl ?_
    refine xm_getN (k := 0) (pc := 32) hM fd_X6_62 dX6_caseOf_32 (by first | rfl | (simp [mset, mcpy]; done)) ?_
    refine xw_if_le (pc := 35) 40 dX6_caseOf_35 rfl (fun _ => ?_) (fun hb => absurd hb (by decide))
    refine xw_iload_n (pc := 40) dX6_caseOf_40 2 rfl ?_
    refine xw_tableIn (x := nI 6) (pc := 41) 88 dX6_caseOf_41 (by decide) (by decide) rfl rfl ?_
    refine xw_aload_n (pc := 88) dX6_caseOf_88 0 rfl ?_
    refine xw_iload_n (pc := 89) dX6_caseOf_89 1 rfl ?_
    refine xw_callH (pc := 90) (xr_V (as := [_]) ok_X6_findChainOfWork rfl (by decide) q2602 q2604 qs79 (by rw [xtag_with, hM.1]; rfl) (by rw [xtag_with, hM.1]; rfl) dX6_caseOf_90 rfl rfl (Nat.le_of_ble_eq_true rfl)) (hfc) ?_
    rintro _ ⟨T2, hT2, rfl, hc1, hc2⟩ _
    refine xw_aload_n (pc := 93) dX6_caseOf_93 0 rfl ?_
    refine xm_getI (pc := 94) hM fd_X6_188 dX6_caseOf_94 ?_
    refine xw_iret (pc := 97) .int dX6_caseOf_97 rfl ?_ 
    rw [if_neg (by decide), if_neg (by decide), if_pos rfl, hc1]
    exact ⟨rfl, T2, hT2, rfl⟩
  refine xm_of (by decide +kernel) (Nat.le_of_ble_eq_true rfl) ?_
  show XW _ _ 0 [(0, _), (1, _), (2, _)] [] _ _
  refine xw_aload_n (pc := 0) dX6_caseOf_0 0 rfl ?_
  refine xw_aload_n (pc := 1) dX6_caseOf_1 0 rfl ?_
  refine xw_iload_n (pc := 2) dX6_caseOf_2 1 rfl ?_
  refine xw_callV (pc := 3) (xr_V (as := [_]) ok_X6_isWork rfl (by decide) q2590 q2592 qs76 (by rw [xtag_with, hM.1]; rfl) (by rw [xtag_with, hM.1]; rfl) dX6_caseOf_3 rfl rfl (Nat.le_of_ble_eq_true rfl)) (SP_X6_isWorkK hM k w (by omega) (by assumption) h2) ?_
  refine xw_if_ne (pc := 6) 13 dX6_caseOf_6 rfl (fun _ => ?_) (fun hb => absurd hb (by decide))
  refine xw_iload_n (pc := 13) dX6_caseOf_13 2 rfl ?_
  refine xw_iconst (v := nI 0) (pc := 14) dX6_caseOf_14 rfl ?_
  refine xw_bipush (v := nI 6) (pc := 15) dX6_caseOf_15 (by decide +kernel) ?_
  refine xw_callV (pc := 17) (xr_S (as := [_, _, _]) ok_X6_in rfl (by decide) q2364 q2365 dX6_caseOf_17 rfl rfl (Nat.le_of_ble_eq_true rfl)) (SP_X6_inT (by assumption)) ?_
  refine xw_if_ne (pc := 20) 27 dX6_caseOf_20 rfl (fun _ => ?_) (fun hb => absurd hb (by decide))
  refine xw_iconst (v := nI 0) (pc := 27) dX6_caseOf_27 rfl ?_
  refine xm_putI (pc := 28) hM fd_X6_62 (xfin_of (by decide) (by decide +kernel)) dX6_caseOf_28 ?_
  refine xw_aload_n (pc := 31) dX6_caseOf_31 0 rfl ?_
  refine xm_getN (k := 0) (pc := 32) hM fd_X6_62 dX6_caseOf_32 (by first | rfl | (simp [mset, mcpy]; done)) ?_
  refine xw_if_le (pc := 35) 40 dX6_caseOf_35 rfl (fun _ => ?_) (fun hb => absurd hb (by decide))
  refine xw_iload_n (pc := 40) dX6_caseOf_40 2 rfl ?_
  refine xw_tableOut (pc := 41) 98 dX6_caseOf_41 (by rw [nI_toInt (by omega)]; omega) rfl ?_
  refine xw_aload_n (pc := 98) dX6_caseOf_98 0 rfl ?_
  refine xm_get (p := 1) (pc := 99) hM fd_X6_9 dX6_caseOf_99 rfl ?_
  refine xw_sipush (v := nI 343) (pc := 102) dX6_caseOf_102 (by decide +kernel) ?_
  refine xw_iconst (v := nI 4) (pc := 105) dX6_caseOf_105 rfl ?_
  refine xw_iload_n (pc := 106) dX6_caseOf_106 1 rfl ?_
  refine xn_imul (pc := 107) dX6_caseOf_107 ?_
  refine xn_iadd (pc := 108) dX6_caseOf_108 ?_
  refine xw_iload_n (pc := 109) dX6_caseOf_109 2 rfl ?_
  refine xn_iadd (pc := 110) dX6_caseOf_110 ?_
  refine xm_iald (pc := 111) hM dX6_caseOf_111 rfl (by omega) ?_
  refine xw_iret (pc := 112) .int dX6_caseOf_112 rfl ?_ 
  rw [if_neg x4, if_neg x5, if_neg x6, e1]
  exact ⟨rfl, _, lkC_rf, rfl⟩
/-- the list's bits laid on a -/
def borL (L : List Nat) : Nat → Int32 → Int32
  | 0, a => a
  | i + 1, a => borL L i a ||| (nI 1 <<< (nI (L.getD i 0) &&& 31))
def borW (F : Nat → List Nat) : Nat → Int32
  | 0 => nI 0
  | k + 1 => borL (F k) (F k).length (borW F k)
theorem lp2_X6_tested {d : Nat} {g : xG} {m : Nat} {S : xMS} (hM : xMod g m) {Q : Option Value ⊕ Nat → xG → Prop} (L : List Nat) (hL : L.length ≤ 16) (k : Nat) (hk : k < 12) (hc1 : S 0 16 = nI L.length) (hc2 : ∀ j, j < L.length → S 8 j = nI (L.getD j 0)) (a0 : Int32) : ∀ (j i : Nat), L.length - i < j → i ≤ L.length → XW M_X6_tested (d + 7) 51 [(3, .int (nI L.length)), (2, .int (nI k)), (1, .int (borL L L.length a0)), (0, .ref m)] [] (xWith g m S) Q → XW M_X6_tested (d + 7) 26 [(3, .int (nI i)), (2, .int (nI k)), (1, .int (borL L i a0)), (0, .ref m)] [] (xWith g m S) Q := by
  intro j
  induction j with
  | zero => intro k h; omega
  | succ j ih =>
  intro i hj hi hq
  refine xw_iload_n (pc := 26) dX6_tested_26 0 rfl ?_
  refine xw_aload_n (pc := 27) dX6_tested_27 3 rfl ?_
  refine xm_getN (k := L.length) (pc := 28) hM fd_X6_188 dX6_tested_28 (by exact hc1) ?_
  refine xw_icmp_ge (pc := 31) 51 dX6_tested_31 rfl (fun hb31 => ?_) (fun hb31 => ?_)
  · replace hb31 : L.length ≤ i := (nI_leI (a := L.length) (b := i) (by omega) (by omega)).mp hb31
    obtain rfl : i = L.length := by omega
    exact hq
  · replace hb31 : ¬ (L.length ≤ i) := mt (nI_leI (a := L.length) (b := i) (by omega) (by omega)).mpr hb31
    refine xw_iload_n (pc := 34) dX6_tested_34 2 rfl ?_
    refine xw_iconst (v := nI 1) (pc := 35) dX6_tested_35 rfl ?_
    refine xw_aload_n (pc := 36) dX6_tested_36 3 rfl ?_
    refine xm_get (p := 8) (pc := 37) hM fd_X6_36 dX6_tested_37 rfl ?_
    refine xw_iload_n (pc := 40) dX6_tested_40 0 rfl ?_
    refine xm_ialdN (v := L.getD i 0) (pc := 41) hM dX6_tested_41 rfl (by omega) (by exact hc2 _ (by omega)) ?_
    refine xw_ishl (pc := 42) dX6_tested_42 ?_
    refine xw_ior (pc := 43) dX6_tested_43 ?_
    refine xw_istore_n (l' := [(1, _), (3, _), (2, _), (0, _)]) (pc := 44) dX6_tested_44 rfl (by decide) rfl ?_
    refine xw_iinc (v := nI (i + 1)) (l' := [(3, _), (1, _), (2, _), (0, _)]) (pc := 45) dX6_tested_45 1 rfl (nI_add _ 1) (by decide) rfl ?_
    refine xw_goto (pc := 48) 26 dX6_tested_48 rfl ?_
    refine xw_pick (pc := 26) (l' := [(3, _), (2, _), (1, _), (0, _)]) [0, 2, 1, 3] rfl ?_
    exact ih (i + 1) (by omega) (by omega) hq
theorem lp1_X6_tested {d : Nat} {g : xG} {m : Nat} {S : xMS} (hM : xMod g m) (n rr w : Nat) (hn : n ≤ 10) (hr : rr ≤ 16) (hw : w ≤ 12) (h1 : S 1 1 = nI rr) (h2 : S 1 2 = nI w) (hW : WFo (S 1) n) (hWr : WFr (S 1) n rr) (hWw : WFw (S 1) n w) (h4 : ¬ S 1 4 < 0) : ∀ (j k : Nat), w - k < j → k ≤ w → ∀ T, lkC S T → XW M_X6_tested (d + 7) 9 [(2, .int (nI k)), (1, .int (borW (wCh (S 1) (S 0 14) rr) k)), (0, .ref m)] [] (xWith g m T) (xLkC g m S (borW (wCh (S 1) (S 0 14) rr) w)) := by
  intro j
  induction j with
  | zero => intro k h; omega
  | succ j ih =>
  intro k hj hk T hT
  have e1 : T 1 = S 1 := hT.1 1 (by decide) (by decide) (by decide) (by decide)
  have hfc := fun hkw : k < w => SP_X6_findChainOfWork (d := d + 1) hM n rr w hn hr hw h1 h2 hW hWr hWw h4 k hkw T hT
  have hl : (wCh (S 1) (S 0 14) rr k).length ≤ rr := chn_len
  refine xw_iload_n (pc := 9) dX6_tested_9 0 rfl ?_
  refine xw_aload_n (pc := 10) dX6_tested_10 2 rfl ?_
  refine xm_get (p := 1) (pc := 11) hM fd_X6_9 dX6_tested_11 rfl ?_
  refine xw_iconst (v := nI 2) (pc := 14) dX6_tested_14 rfl ?_
  refine xm_ialdN (v := w) (pc := 15) hM dX6_tested_15 rfl (by omega) (by rw [e1]; exact h2) ?_
  refine xw_icmp_ge (pc := 16) 57 dX6_tested_16 rfl (fun hb16 => ?_) (fun hb16 => ?_)
  · replace hb16 : w ≤ k := (nI_leI (a := w) (b := k) (by omega) (by omega)).mp hb16
    refine xw_iload_n (pc := 57) dX6_tested_57 1 rfl ?_
    refine xw_iret (pc := 58) .int dX6_tested_58 rfl ?_ 
    obtain rfl : k = w := by omega
    exact ⟨rfl, T, hT, rfl⟩
  · replace hb16 : ¬ (w ≤ k) := mt (nI_leI (a := w) (b := k) (by omega) (by omega)).mpr hb16
    refine xw_aload_n (pc := 19) dX6_tested_19 2 rfl ?_
    refine xw_iload_n (pc := 20) dX6_tested_20 0 rfl ?_
    refine xw_callH (pc := 21) (xr_V (as := [_]) ok_X6_findChainOfWork rfl (by decide) q2602 q2604 qs79 (by rw [xtag_with, hM.1]; rfl) (by rw [xtag_with, hM.1]; rfl) dX6_tested_21 rfl rfl (Nat.le_of_ble_eq_true rfl)) (hfc (by omega)) ?_
    rintro _ ⟨T2, hT2, rfl, hc1, hc2⟩ _
    refine xw_iconst (v := nI 0) (pc := 24) dX6_tested_24 rfl ?_
    refine xw_istore_n (l' := [(3, _), (2, _), (1, _), (0, _)]) (pc := 25) dX6_tested_25 rfl (by decide) rfl ?_
    refine lp2_X6_tested (d := d) hM (wCh (S 1) (S 0 14) rr k) (by omega) k (by omega) hc1 hc2 (borW (wCh (S 1) (S 0 14) rr) k) ((wCh (S 1) (S 0 14) rr k).length + 1) 0 (by omega) (Nat.zero_le _) ?_
    refine xw_iinc (v := nI (k + 1)) (l' := [(2, _), (3, _), (1, _), (0, _)]) (pc := 51) dX6_tested_51 1 rfl (nI_add _ 1) (by decide) rfl ?_
    refine xw_goto (pc := 54) 9 dX6_tested_54 rfl ?_
    refine xw_pick (pc := 9) (l' := [(2, _), (1, _), (0, _)]) [0, 2, 3] rfl ?_
    exact ih (k + 1) (by omega) (by omega) T2 hT2
theorem SP_X6_tested {d : Nat} {g : xG} {m : Nat} {S : xMS} (hM : xMod g m) (n rr w : Nat) (hn : n ≤ 10) (hr : rr ≤ 16) (hw : w ≤ 12) (h1 : S 1 1 = nI rr) (h2 : S 1 2 = nI w) (hW : WFo (S 1) n) (hWr : WFr (S 1) n rr) (hWw : WFw (S 1) n w) (h4 : ¬ S 1 4 < 0) : XM M_X6_tested (d + 7) [.ref m] (xWith g m S) (xLkC g m (mset S 0 6 (nI 0)) (borW (wCh (S 1) (S 0 14) rr) w)) := by
  have e1 : (mset S 0 6 (nI 0)) 1 = S 1 := mset_q (by decide)
  have h := lp1_X6_tested (d := d) (S := mset S 0 6 (nI 0)) hM n rr w hn hr hw (by rw [e1]; exact h1) (by rw [e1]; exact h2) (by rw [e1]; exact hW) (by rw [e1]; exact hWr) (by rw [e1]; exact hWw) (by rw [e1]; exact h4) (w + 1) 0 (by omega) (by omega) _ lkC_rf
  simp only [e1] at h
  refine xm_of (by decide +kernel) (Nat.le_of_ble_eq_true rfl) ?_
  show XW _ _ 0 [(0, _)] [] _ _
  refine xw_aload_n (pc := 0) dX6_tested_0 0 rfl ?_
  refine xw_iconst (v := nI 0) (pc := 1) dX6_tested_1 rfl ?_
  refine xm_putI (pc := 2) hM fd_X6_62 (xfin_of (by decide) (by decide +kernel)) dX6_tested_2 ?_
  refine xw_iconst (v := nI 0) (pc := 5) dX6_tested_5 rfl ?_
  refine xw_istore_n (l' := [(1, _), (0, _)]) (pc := 6) dX6_tested_6 rfl (by decide) rfl ?_
  refine xw_iconst (v := nI 0) (pc := 7) dX6_tested_7 rfl ?_
  refine xw_istore_n (l' := [(2, _), (1, _), (0, _)]) (pc := 8) dX6_tested_8 rfl (by decide) rfl ?_
  exact h
theorem SP_X6_without_F {d : Nat} {g : xG} {m : Nat} {S : xMS} (hM : xMod g m) (rr : Nat) (hr : rr ≤ 16) (h1 : S 1 1 = nI rr) (v : Int32) (hv : ¬ inR v (nI 0) (nI rr - nI 1) = true) : XM M_X6_without (d + 2) [.ref m, .int v] (xWith g m S) (xOne (some (.int (nI 0))) (xWith g m (mset S 0 6 (nI 1)))) := by
  refine xm_of (by decide +kernel) (Nat.le_of_ble_eq_true rfl) ?_
  show XW _ _ 0 [(0, _), (1, _)] [] _ _
  refine xw_aload_n (pc := 0) dX6_without_0 0 rfl ?_
  refine xw_aload_n (pc := 1) dX6_without_1 0 rfl ?_
  refine xw_iload_n (pc := 2) dX6_without_2 1 rfl ?_
  refine xw_callV (pc := 3) (xr_V (as := [_]) ok_X6_isRule rfl (by decide) q2445 q2447 qs60 (by rw [xtag_with, hM.1]; rfl) (by rw [xtag_with, hM.1]; rfl) dX6_without_3 rfl rfl (Nat.le_of_ble_eq_true rfl)) (SP_X6_isRuleF hM rr h1 (by assumption)) ?_
  refine xw_if_eq (pc := 6) 13 dX6_without_6 rfl (fun _ => ?_) (fun hb => absurd hb (by decide))
  refine xw_iconst (v := nI 1) (pc := 13) dX6_without_13 rfl ?_
  refine xm_putI (pc := 14) hM fd_X6_62 (xfin_of (by decide) (by decide +kernel)) dX6_without_14 ?_
  refine xw_aload_n (pc := 17) dX6_without_17 0 rfl ?_
  refine xm_getN (k := 1) (pc := 18) hM fd_X6_62 dX6_without_18 (by first | rfl | (simp [mset, mcpy]; done)) ?_
  refine xw_if_le (pc := 21) 26 dX6_without_21 rfl (fun hb => absurd hb (by decide)) (fun _ => ?_)
  refine xw_iconst (v := nI 0) (pc := 24) dX6_without_24 rfl ?_
  refine xw_iret (pc := 25) .int dX6_without_25 rfl ?_ 
  exact ⟨rfl, rfl⟩
theorem SP_X6_without {d : Nat} {g : xG} {m : Nat} {S : xMS} (hM : xMod g m) (n rr w : Nat) (hn : n ≤ 10) (hr : rr ≤ 16) (hw : w ≤ 12) (h1 : S 1 1 = nI rr) (h2 : S 1 2 = nI w) (hW : WFo (S 1) n) (hWr : WFr (S 1) n rr) (hWw : WFw (S 1) n w) (h4 : ¬ S 1 4 < 0) (r : Nat) (hrr : r < rr) : XM M_X6_without (d + 8) [.ref m, .int (nI r)] (xWith g m S) (fun rs g' => rs = .inl (some (.int (nI (w - cntB (fun z => !wRt (S 1) (nI r) rr z) w)))) ∧ ∃ T, lkEq (mset (mset S 0 6 (nI 0)) 0 14 (nI r)) T ∧ g' = xWith g m (mset T 0 14 (-1))) := by
  have e1 : (mset (mset S 0 6 (nI 0)) 0 14 (nI r)) 1 = S 1 := (mset_q (by decide)).trans (mset_q (by decide))
  have hx := SP_X6_wrongSet (d := d) (S := mset (mset S 0 6 (nI 0)) 0 14 (nI r)) hM n rr w hn hr hw (by rw [e1]; exact h1) (by rw [e1]; exact h2) (by rw [e1]; exact hW) (by rw [e1]; exact hWr) (by rw [e1]; exact hWw) (by rw [e1]; exact h4) _ (fun _ _ _ => rfl)
  have e14 : mset (mset S 0 6 (nI 0)) 0 14 (nI r) 0 14 = nI r := rfl
  rw [bset_bN w hw] at hx
  simp only [e1, e14] at hx
  have hlt := @bN_lt (fun z => !wRt (S 1) (nI r) rr z) w
  have hle := cntB_le (fun z => !wRt (S 1) (nI r) rr z) w
  have h5 : bN (fun z => !wRt (S 1) (nI r) rr z) w < 5000 := Nat.lt_of_lt_of_le hlt (Nat.le_trans (Nat.pow_le_pow_right (by decide) hw) (by decide))
  have hon := SP_X6_ones (d := d + 7) (g := g) _ h5
  have hpc := pcN_bN (P := fun z => !wRt (S 1) (nI r) rr z) w hw
  refine xm_of (by decide +kernel) (Nat.le_of_ble_eq_true rfl) ?_
  show XW _ _ 0 [(0, _), (1, _)] [] _ _
  refine xw_aload_n (pc := 0) dX6_without_0 0 rfl ?_
  refine xw_aload_n (pc := 1) dX6_without_1 0 rfl ?_
  refine xw_iload_n (pc := 2) dX6_without_2 1 rfl ?_
  refine xw_callV (pc := 3) (xr_V (as := [_]) ok_X6_isRule rfl (by decide) q2445 q2447 qs60 (by rw [xtag_with, hM.1]; rfl) (by rw [xtag_with, hM.1]; rfl) dX6_without_3 rfl rfl (Nat.le_of_ble_eq_true rfl)) (SP_X6_isRuleK hM r rr hr (by assumption) h1) ?_
  refine xw_if_eq (pc := 6) 13 dX6_without_6 rfl (fun hb => absurd hb (by decide)) (fun _ => ?_)
  refine xw_iconst (v := nI 0) (pc := 9) dX6_without_9 rfl ?_
  refine xw_goto (pc := 10) 14 dX6_without_10 rfl ?_
  refine xm_putI (pc := 14) hM fd_X6_62 (xfin_of (by decide) (by decide +kernel)) dX6_without_14 ?_
  refine xw_aload_n (pc := 17) dX6_without_17 0 rfl ?_
  refine xm_getN (k := 0) (pc := 18) hM fd_X6_62 dX6_without_18 (by first | rfl | (simp [mset, mcpy]; done)) ?_
  refine xw_if_le (pc := 21) 26 dX6_without_21 rfl (fun _ => ?_) (fun hb => absurd hb (by decide))
  refine xw_aload_n (pc := 26) dX6_without_26 0 rfl ?_
  refine xw_iload_n (pc := 27) dX6_without_27 1 rfl ?_
  refine xm_putI (pc := 28) hM fd_X6_32 (xfin_of (by decide) (by decide +kernel)) dX6_without_28 ?_
  refine xw_aload_n (pc := 31) dX6_without_31 0 rfl ?_
  refine xm_get (p := 1) (pc := 32) hM fd_X6_9 dX6_without_32 rfl ?_
  refine xw_iconst (v := nI 2) (pc := 35) dX6_without_35 rfl ?_
  refine xm_ialdN (v := w) (pc := 36) hM dX6_without_36 rfl (by omega) (by rw [e1]; exact h2) ?_
  refine xw_aload_n (pc := 37) dX6_without_37 0 rfl ?_
  refine xw_callL (pc := 38) (xr_V (as := []) ok_X6_wrongSet rfl (by decide) q2614 q2616 qs80 (by rw [xtag_with, hM.1]; rfl) (by rw [xtag_with, hM.1]; rfl) dX6_without_38 rfl rfl (Nat.le_of_ble_eq_true rfl)) (hx) ?_
  intro T2 hT2
  have e2 : T2 1 = S 1 := hT2 1 (by decide) (by decide)
  refine xw_callV (pc := 41) (xr_S (as := [_]) ok_X6_ones rfl (by decide) q2626 q2627 dX6_without_41 rfl rfl (Nat.le_of_ble_eq_true rfl)) (SP_X6_ones _ h5) ?_
  refine xn_isub (pc := 44) dX6_without_44 (by omega) ?_
  refine xw_istore_n (l' := [(2, _), (0, _), (1, _)]) (pc := 45) dX6_without_45 rfl (by decide) rfl ?_
  refine xw_aload_n (pc := 46) dX6_without_46 1 rfl ?_
  refine xw_iconst (v := -1) (pc := 47) dX6_without_47 (by decide +kernel) ?_
  refine xm_putI (pc := 48) hM fd_X6_32 (xfin_of (by decide) (by decide +kernel)) dX6_without_48 ?_
  refine xw_iload_n (pc := 51) dX6_without_51 0 rfl ?_
  refine xw_iret (pc := 52) .int dX6_without_52 rfl ?_ 
  rw [hpc]
  exact ⟨rfl, T2, hT2, rfl⟩
