/-! MODEL 20: the reference reads -/
set_option maxRecDepth 100000
theorem xm_getE {M : xM} {d pc : Nat} {l : List (Nat × Value)} {rest : List Value} {g : xG} {m : Nat} {S : xMS} {Q : Option Value ⊕ Nat → xG → Prop} {idx j : Nat} {v : Int32} {ty : FieldType} (hM : xMod g m) (F : xFld M.1.cls idx 5 j ty) (hd : decode M.2.1 pc = .ok (.getfield idx, 3)) (h : S 0 j = v) (kk : XW M d (pc + 3) l (.int v :: rest) (xWith g m S) Q) (hty : xval ty = (fun c j => .int (c.2.2.2.1 j)) := by rfl) : XW M d pc l (.ref m :: rest) (xWith g m S) Q :=
  xm_getI hM F hd (by rw [h]; exact kk) hty
theorem neg1_lt {n : Nat} (hn : n < 1000) : (-1 : Int32) < nI n := by
  rw [Int32.lt_iff_toInt_lt, nI_toInt (by omega)]
  have : (-1 : Int32).toInt = -1 := by decide
  omega
/-- refused -/
def mRef (S : xMS) (a b : Nat) (c : Int32) : xMS := mset (mset (mset S 0 6 (nI a)) 0 7 (nI b)) 0 8 c
/-- what hinders the draft's rule -/
def hindD (s : Nat → Int32) (rr : Nat) (o : Option Nat) (sc f l : Nat) : Nat × Int32 := match o with
  | none => hind0 rr (nI f) (nI l)
  | some q => hindQ s rr q sc (nI f) (nI l)
/-- what's done of what was read -/
def opRd (S : xMS) (n rr p : Nat) (D : xDf) : Int32 × xMS := match D with
  | (e, o, s, T, f, l, k) =>
    if (match o with | none => false | some q => decide (rr ≤ q)) = true then (nI 0, mRef (mset S 0 6 (nI 0)) 2 1 (ofV o))
    else if n ≤ s then (nI 0, mRef (mset S 0 6 (nI 0)) 2 1 (nI s))
    else if (hindD (S 1) rr o s f l).1 ≠ 0 then (nI 0, mRef (mset (mset S 0 6 (nI 0)) 0 9 (hindD (S 1) rr o s f l).2) 2 (hindD (S 1) rr o s f l).1 (hindD (S 1) rr o s f l).2)
    else if (hindT (FA0 S T.length) T.length).1 ≠ 0 then (nI 0, mRef (mset (mset S 0 6 (nI 0)) 0 9 (hindT (FA0 S T.length) T.length).2) 2 (hindT (FA0 S T.length) T.length).1 (hindT (FA0 S T.length) T.length).2)
    else (nI rr, putT (putR (push (mset (mset S 0 6 (nI 0)) 0 9 (hindT (FA0 S T.length) T.length).2) p) rr (effV e) (ofV o) (nI s) (nI k) (nI f) (nI l)) rr 0 T.length)
theorem mset_mset {S : xMS} {p j : Nat} {v w : Int32} : mset (mset S p j v) p j w = mset S p j w := by
  funext q i
  unfold mset
  by_cases h : q = p ∧ i = j
  · rw [if_pos h, if_pos h]
  · rw [if_neg h, if_neg h, if_neg h]
theorem hindD_rr {s : Nat → Int32} {rr sc f l : Nat} {o : Option Nat} (hr : rr ≤ 16) (h : (hindD s rr o sc f l).1 = 0) : rr < 16 := by
  unfold hindD at h
  cases o with
  | none => exact hind0_rr (f := nI f) (l := nI l) hr (by dsimp only at h; omega)
  | some q =>
    dsimp only at h
    unfold hindQ at h
    split at h
    · exact absurd h (by decide)
    · omega
theorem hindD_le {s : Nat → Int32} {rr sc f l : Nat} {o : Option Nat} : (hindD s rr o sc f l).1 ≤ 5 := by
  unfold hindD hindQ hind0
  cases o <;> (dsimp only; repeat' split) <;> exact Nat.le_of_ble_eq_true rfl
theorem push_1 {S : xMS} {p : Nat} : push S p 1 = S 1 := push_q (by decide) (by decide) (by decide)
theorem putR_0 {S : xMS} {rr j : Nat} {e par sc rank f l : Int32} : putR S rr e par sc rank f l 0 j = S 0 j := by
  unfold putR
  simp only [mset_q (show (0 : Nat) ≠ 1 by decide)]
  unfold mzero
  rw [if_neg (fun e9 => absurd e9.1 (by decide))]
theorem putR_7 {S : xMS} {rr : Nat} (hr : rr < 16) {e par sc rank f l : Int32} : putR S rr e par sc rank f l 1 (23 + 20 * rr + 7) = nI 0 := by
  unfold putR
  simp only [mset_s]
  rw [if_neg (by omega), if_neg (by omega), if_neg (by omega), if_neg (by omega), if_neg (by omega), if_neg (by omega), if_neg (by omega), if_neg (by omega)]
  unfold mzero
  rw [if_pos (by omega)]

theorem rd_S_n {d : Nat} {g : xG} {m : Nat} {S : xMS} (hM : xMod g m) (n rr p : Nat) (n0 : 0 < n) (hn : n ≤ 10) (hr : rr ≤ 16) (hp : p ≤ 8) (h0 : S 1 0 = nI n) (h1 : S 1 1 = nI rr) (hpm : S 0 5 = nI p) (hW : WFo (S 1) n) (hWp : WFp (S 1) rr) (hWs : WFsc (S 1) n rr) {e : Option Nat} {s f l k : Nat} {T : List xT3} (hs : s < 1000) (hTl : T.length ≤ 60) (hWm : WFmo S T.length) (h26 : S 0 26 = effV e) (h28 : S 0 28 = nI s) (h29 : S 0 29 = nI f) (h30 : S 0 30 = nI l) (h31 : S 0 31 = nI k) (h5 : S 0 11 = nI T.length) (h27 : S 0 27 = -1)  (hlt : ¬ s < n) : XW M_X6_read (d + 6) 73 [(0, .ref m)] [] (xWith g m S) (xOne (some (.int (opRd S n rr p (e, none, s, T, f, l, k)).1)) (xWith g m (opRd S n rr p (e, none, s, T, f, l, k)).2)) := by
  have e1 : ∀ (S9 : xMS) j v, (mset S9 0 j v) 1 = S9 1 := fun S9 j v => mset_q (by decide)
  have e5 : ∀ (S9 : xMS) j v, (mset S9 0 j v) 5 = S9 5 := fun S9 j v => mset_q (by decide)
  have hsc : inR (nI s) (nI 0) (nI n - nI 1) = false := inR_ge hlt hs (by omega)
  dsimp only [opRd]
  rw [if_neg (by simp)]
  rw [if_pos (by omega)]
  refine xw_aload_n (pc := 73) dX6_read_73 0 rfl ?_
  refine xw_iconst (v := nI 0) (pc := 74) dX6_read_74 rfl ?_
  refine xm_putI (pc := 75) hM fd_X6_62 (xfin_of (by decide) (by decide +kernel)) dX6_read_75 ?_
  refine xw_aload_n (pc := 78) dX6_read_78 0 rfl ?_
  refine xm_getE (pc := 79) hM fd_X6_287 dX6_read_79 h27 ?_
  refine xw_aload_n (pc := 82) dX6_read_82 0 rfl ?_
  refine xm_get (p := 1) (pc := 83) hM fd_X6_9 dX6_read_83 rfl ?_
  refine xw_iconst (v := nI 1) (pc := 86) dX6_read_86 rfl ?_
  refine xm_ialdN (v := rr) (pc := 87) hM dX6_read_87 rfl (by omega) (by rw [e1]; exact h1) ?_
  refine xw_icmp_lt (pc := 88) 102 dX6_read_88 rfl (fun hb88 => ?_) (fun hb88 => ?_)
  rotate_left
  · exfalso
    exact hb88 (neg1_lt (by omega))
  refine xw_aload_n (pc := 102) dX6_read_102 0 rfl ?_
  refine xw_aload_n (pc := 103) dX6_read_103 0 rfl ?_
  refine xm_getN (k := s) (pc := 104) hM fd_X6_297 dX6_read_104 (by exact h28) ?_
  refine xw_callV (pc := 107) (xr_V (as := [_]) ok_X6_isScope rfl (by decide) q2360 q2362 qs47 (by rw [xtag_with, hM.1]; rfl) (by rw [xtag_with, hM.1]; rfl) dX6_read_107 rfl rfl (Nat.le_of_ble_eq_true rfl)) ((show XM M_X6_isScope (d + 5) [.ref m, .int (nI s)] (xWith g m (mset S 0 6 (nI 0))) (xOne (some (.int (bI false))) (xWith g m (mset S 0 6 (nI 0)))) from by have h9 := SP_X6_isScope (d := d + 4) (S := mset S 0 6 (nI 0)) hM (v := nI s); rw [e1, h0, hsc] at h9; exact h9)) ?_
  refine xw_if_ne (pc := 110) 124 dX6_read_110 rfl (fun hb => absurd hb (by decide)) (fun _ => ?_)
  refine xw_aload_n (pc := 113) dX6_read_113 0 rfl ?_
  refine xw_iconst (v := nI 2) (pc := 114) dX6_read_114 rfl ?_
  refine xw_iconst (v := nI 1) (pc := 115) dX6_read_115 rfl ?_
  refine xw_aload_n (pc := 116) dX6_read_116 0 rfl ?_
  refine xm_getN (k := s) (pc := 117) hM fd_X6_297 dX6_read_117 (by exact h28) ?_
  refine xw_callV (pc := 120) (xr_V (as := [_, _, _]) ok_X6_refuse rfl (by decide) q2433 q2435 qs58 (by rw [xtag_with, hM.1]; rfl) (by rw [xtag_with, hM.1]; rfl) dX6_read_120 rfl rfl (Nat.le_of_ble_eq_true rfl)) (SP_X6_refuse hM) ?_
  refine xw_iret (pc := 123) .int dX6_read_123 rfl ?_ 
  exact ⟨rfl, rfl⟩
theorem rd_H_n {d : Nat} {g : xG} {m : Nat} {S : xMS} (hM : xMod g m) (n rr p : Nat) (n0 : 0 < n) (hn : n ≤ 10) (hr : rr ≤ 16) (hp : p ≤ 8) (h0 : S 1 0 = nI n) (h1 : S 1 1 = nI rr) (hpm : S 0 5 = nI p) (hW : WFo (S 1) n) (hWp : WFp (S 1) rr) (hWs : WFsc (S 1) n rr) {e : Option Nat} {s f l k : Nat} {T : List xT3} (hs : s < 1000) (hTl : T.length ≤ 60) (hWm : WFmo S T.length) (h26 : S 0 26 = effV e) (h28 : S 0 28 = nI s) (h29 : S 0 29 = nI f) (h30 : S 0 30 = nI l) (h31 : S 0 31 = nI k) (h5 : S 0 11 = nI T.length) (h27 : S 0 27 = -1)  (hlt : s < n) (hh : (hindD (S 1) rr none s f l).1 ≠ 0) : XW M_X6_read (d + 6) 73 [(0, .ref m)] [] (xWith g m S) (xOne (some (.int (opRd S n rr p (e, none, s, T, f, l, k)).1)) (xWith g m (opRd S n rr p (e, none, s, T, f, l, k)).2)) := by
  have e1 : ∀ (S9 : xMS) j v, (mset S9 0 j v) 1 = S9 1 := fun S9 j v => mset_q (by decide)
  have e5 : ∀ (S9 : xMS) j v, (mset S9 0 j v) 5 = S9 5 := fun S9 j v => mset_q (by decide)
  have hsc : inR (nI s) (nI 0) (nI n - nI 1) = true := inR_k (by omega) hlt
  have hdl := @hindD_le (S 1) rr s f l none
  dsimp only [opRd]
  rw [if_neg (by simp)]
  rw [if_neg (by omega)]
  rw [if_pos hh]
  refine xw_aload_n (pc := 73) dX6_read_73 0 rfl ?_
  refine xw_iconst (v := nI 0) (pc := 74) dX6_read_74 rfl ?_
  refine xm_putI (pc := 75) hM fd_X6_62 (xfin_of (by decide) (by decide +kernel)) dX6_read_75 ?_
  refine xw_aload_n (pc := 78) dX6_read_78 0 rfl ?_
  refine xm_getE (pc := 79) hM fd_X6_287 dX6_read_79 h27 ?_
  refine xw_aload_n (pc := 82) dX6_read_82 0 rfl ?_
  refine xm_get (p := 1) (pc := 83) hM fd_X6_9 dX6_read_83 rfl ?_
  refine xw_iconst (v := nI 1) (pc := 86) dX6_read_86 rfl ?_
  refine xm_ialdN (v := rr) (pc := 87) hM dX6_read_87 rfl (by omega) (by rw [e1]; exact h1) ?_
  refine xw_icmp_lt (pc := 88) 102 dX6_read_88 rfl (fun hb88 => ?_) (fun hb88 => ?_)
  rotate_left
  · exfalso
    exact hb88 (neg1_lt (by omega))
  refine xw_aload_n (pc := 102) dX6_read_102 0 rfl ?_
  refine xw_aload_n (pc := 103) dX6_read_103 0 rfl ?_
  refine xm_getN (k := s) (pc := 104) hM fd_X6_297 dX6_read_104 (by exact h28) ?_
  refine xw_callV (pc := 107) (xr_V (as := [_]) ok_X6_isScope rfl (by decide) q2360 q2362 qs47 (by rw [xtag_with, hM.1]; rfl) (by rw [xtag_with, hM.1]; rfl) dX6_read_107 rfl rfl (Nat.le_of_ble_eq_true rfl)) ((show XM M_X6_isScope (d + 5) [.ref m, .int (nI s)] (xWith g m (mset S 0 6 (nI 0))) (xOne (some (.int (bI true))) (xWith g m (mset S 0 6 (nI 0)))) from by have h9 := SP_X6_isScope (d := d + 4) (S := mset S 0 6 (nI 0)) hM (v := nI s); rw [e1, h0, hsc] at h9; exact h9)) ?_
  refine xw_if_ne (pc := 110) 124 dX6_read_110 rfl (fun _ => ?_) (fun hb => absurd hb (by decide))
  refine xw_aload_n (pc := 124) dX6_read_124 0 rfl ?_
  refine xw_aload_n (pc := 125) dX6_read_125 0 rfl ?_
  refine xm_getE (pc := 126) hM fd_X6_287 dX6_read_126 h27 ?_
  refine xw_aload_n (pc := 129) dX6_read_129 0 rfl ?_
  refine xm_getN (k := s) (pc := 130) hM fd_X6_297 dX6_read_130 (by exact h28) ?_
  refine xw_aload_n (pc := 133) dX6_read_133 0 rfl ?_
  refine xm_getN (k := f) (pc := 134) hM fd_X6_303 dX6_read_134 (by exact h29) ?_
  refine xw_aload_n (pc := 137) dX6_read_137 0 rfl ?_
  refine xm_getN (k := l) (pc := 138) hM fd_X6_306 dX6_read_138 (by exact h30) ?_
  refine xw_callV (pc := 141) (xr_V (as := [_, _, _, _]) ok_X6_hinders rfl (by decide) q2425 q2427 qs56 (by rw [xtag_with, hM.1]; rfl) (by rw [xtag_with, hM.1]; rfl) dX6_read_141 rfl rfl (Nat.le_of_ble_eq_true rfl)) ((show XM M_X6_hinders (d + 5) [.ref m, .int (-1), .int (nI s), .int (nI f), .int (nI l)] (xWith g m (mset S 0 6 (nI 0))) (xOne (some (.int (nI (hindD (S 1) rr none s f l).1))) (xWith g m (mset (mset S 0 6 (nI 0)) 0 9 (hindD (S 1) rr none s f l).2))) from by have h9 := SP_X6_hinders0 (S := mset S 0 6 (nI 0)) (d := d + 2) hM rr hr (by rw [e1]; exact h1) (nI f) (nI l) (sc := nI s); exact h9)) ?_
  refine xw_istore_n (l' := [(1, _), (0, _)]) (pc := 144) dX6_read_144 rfl (by decide) rfl ?_
  refine xw_iload_n (pc := 145) dX6_read_145 0 rfl ?_
  refine xw_if_ne (pc := 146) 157 dX6_read_146 rfl (fun hb146 => ?_) (fun hb146 => ?_)
  rotate_left
  · exfalso
    replace hb146 : (hindD (S 1) rr none s f l).1 = 0 := (nI_eq (a := (hindD (S 1) rr none s f l).1) (b := 0) (by omega) (by omega)).mp hb146
    omega
  replace hb146 : ¬ ((hindD (S 1) rr none s f l).1 = 0) := mt (nI_eq (a := (hindD (S 1) rr none s f l).1) (b := 0) (by omega) (by omega)).mpr hb146
  refine xw_iload_n (pc := 157) dX6_read_157 0 rfl ?_
  refine xw_istore_n (l' := [(1, _), (0, _)]) (pc := 158) dX6_read_158 rfl (by decide) rfl ?_
  refine xw_iload_n (pc := 159) dX6_read_159 0 rfl ?_
  refine xw_if_le (pc := 160) 174 dX6_read_160 rfl (fun hb160 => ?_) (fun hb160 => ?_)
  · exfalso
    replace hb160 : (hindD (S 1) rr none s f l).1 ≤ 0 := (nI_leI (a := (hindD (S 1) rr none s f l).1) (b := 0) (by omega) (by omega)).mp hb160
    omega
  replace hb160 : ¬ ((hindD (S 1) rr none s f l).1 ≤ 0) := mt (nI_leI (a := (hindD (S 1) rr none s f l).1) (b := 0) (by omega) (by omega)).mpr hb160
  refine xw_aload_n (pc := 163) dX6_read_163 1 rfl ?_
  refine xw_iconst (v := nI 2) (pc := 164) dX6_read_164 rfl ?_
  refine xw_iload_n (pc := 165) dX6_read_165 0 rfl ?_
  refine xw_aload_n (pc := 166) dX6_read_166 1 rfl ?_
  refine xm_getE (pc := 167) hM fd_X6_115 dX6_read_167 (show _ = (hindD (S 1) rr none s f l).2 from rfl) ?_
  refine xw_callV (pc := 170) (xr_V (as := [_, _, _]) ok_X6_refuse rfl (by decide) q2433 q2435 qs58 (by rw [xtag_with, hM.1]; rfl) (by rw [xtag_with, hM.1]; rfl) dX6_read_170 rfl rfl (Nat.le_of_ble_eq_true rfl)) (SP_X6_refuse hM) ?_
  refine xw_iret (pc := 173) .int dX6_read_173 rfl ?_ 
  exact ⟨rfl, rfl⟩
theorem rd_T_n {d : Nat} {g : xG} {m : Nat} {S : xMS} (hM : xMod g m) (n rr p : Nat) (n0 : 0 < n) (hn : n ≤ 10) (hr : rr ≤ 16) (hp : p ≤ 8) (h0 : S 1 0 = nI n) (h1 : S 1 1 = nI rr) (hpm : S 0 5 = nI p) (hW : WFo (S 1) n) (hWp : WFp (S 1) rr) (hWs : WFsc (S 1) n rr) {e : Option Nat} {s f l k : Nat} {T : List xT3} (hs : s < 1000) (hTl : T.length ≤ 60) (hWm : WFmo S T.length) (h26 : S 0 26 = effV e) (h28 : S 0 28 = nI s) (h29 : S 0 29 = nI f) (h30 : S 0 30 = nI l) (h31 : S 0 31 = nI k) (h5 : S 0 11 = nI T.length) (h27 : S 0 27 = -1)  (hlt : s < n) (hh : (hindD (S 1) rr none s f l).1 = 0) (ht : (hindT (FA0 S T.length) T.length).1 ≠ 0) : XW M_X6_read (d + 6) 73 [(0, .ref m)] [] (xWith g m S) (xOne (some (.int (opRd S n rr p (e, none, s, T, f, l, k)).1)) (xWith g m (opRd S n rr p (e, none, s, T, f, l, k)).2)) := by
  have e1 : ∀ (S9 : xMS) j v, (mset S9 0 j v) 1 = S9 1 := fun S9 j v => mset_q (by decide)
  have e5 : ∀ (S9 : xMS) j v, (mset S9 0 j v) 5 = S9 5 := fun S9 j v => mset_q (by decide)
  have hsc : inR (nI s) (nI 0) (nI n - nI 1) = true := inR_k (by omega) hlt
  have hdl := @hindD_le (S 1) rr s f l none
  have htl := @hindT_le (FA0 S T.length) T.length
  dsimp only [opRd]
  rw [if_neg (by simp)]
  rw [if_neg (by omega)]
  rw [if_neg (by omega)]
  rw [if_pos ht]
  refine xw_aload_n (pc := 73) dX6_read_73 0 rfl ?_
  refine xw_iconst (v := nI 0) (pc := 74) dX6_read_74 rfl ?_
  refine xm_putI (pc := 75) hM fd_X6_62 (xfin_of (by decide) (by decide +kernel)) dX6_read_75 ?_
  refine xw_aload_n (pc := 78) dX6_read_78 0 rfl ?_
  refine xm_getE (pc := 79) hM fd_X6_287 dX6_read_79 h27 ?_
  refine xw_aload_n (pc := 82) dX6_read_82 0 rfl ?_
  refine xm_get (p := 1) (pc := 83) hM fd_X6_9 dX6_read_83 rfl ?_
  refine xw_iconst (v := nI 1) (pc := 86) dX6_read_86 rfl ?_
  refine xm_ialdN (v := rr) (pc := 87) hM dX6_read_87 rfl (by omega) (by rw [e1]; exact h1) ?_
  refine xw_icmp_lt (pc := 88) 102 dX6_read_88 rfl (fun hb88 => ?_) (fun hb88 => ?_)
  rotate_left
  · exfalso
    exact hb88 (neg1_lt (by omega))
  refine xw_aload_n (pc := 102) dX6_read_102 0 rfl ?_
  refine xw_aload_n (pc := 103) dX6_read_103 0 rfl ?_
  refine xm_getN (k := s) (pc := 104) hM fd_X6_297 dX6_read_104 (by exact h28) ?_
  refine xw_callV (pc := 107) (xr_V (as := [_]) ok_X6_isScope rfl (by decide) q2360 q2362 qs47 (by rw [xtag_with, hM.1]; rfl) (by rw [xtag_with, hM.1]; rfl) dX6_read_107 rfl rfl (Nat.le_of_ble_eq_true rfl)) ((show XM M_X6_isScope (d + 5) [.ref m, .int (nI s)] (xWith g m (mset S 0 6 (nI 0))) (xOne (some (.int (bI true))) (xWith g m (mset S 0 6 (nI 0)))) from by have h9 := SP_X6_isScope (d := d + 4) (S := mset S 0 6 (nI 0)) hM (v := nI s); rw [e1, h0, hsc] at h9; exact h9)) ?_
  refine xw_if_ne (pc := 110) 124 dX6_read_110 rfl (fun _ => ?_) (fun hb => absurd hb (by decide))
  refine xw_aload_n (pc := 124) dX6_read_124 0 rfl ?_
  refine xw_aload_n (pc := 125) dX6_read_125 0 rfl ?_
  refine xm_getE (pc := 126) hM fd_X6_287 dX6_read_126 h27 ?_
  refine xw_aload_n (pc := 129) dX6_read_129 0 rfl ?_
  refine xm_getN (k := s) (pc := 130) hM fd_X6_297 dX6_read_130 (by exact h28) ?_
  refine xw_aload_n (pc := 133) dX6_read_133 0 rfl ?_
  refine xm_getN (k := f) (pc := 134) hM fd_X6_303 dX6_read_134 (by exact h29) ?_
  refine xw_aload_n (pc := 137) dX6_read_137 0 rfl ?_
  refine xm_getN (k := l) (pc := 138) hM fd_X6_306 dX6_read_138 (by exact h30) ?_
  refine xw_callV (pc := 141) (xr_V (as := [_, _, _, _]) ok_X6_hinders rfl (by decide) q2425 q2427 qs56 (by rw [xtag_with, hM.1]; rfl) (by rw [xtag_with, hM.1]; rfl) dX6_read_141 rfl rfl (Nat.le_of_ble_eq_true rfl)) ((show XM M_X6_hinders (d + 5) [.ref m, .int (-1), .int (nI s), .int (nI f), .int (nI l)] (xWith g m (mset S 0 6 (nI 0))) (xOne (some (.int (nI (hindD (S 1) rr none s f l).1))) (xWith g m (mset (mset S 0 6 (nI 0)) 0 9 (hindD (S 1) rr none s f l).2))) from by have h9 := SP_X6_hinders0 (S := mset S 0 6 (nI 0)) (d := d + 2) hM rr hr (by rw [e1]; exact h1) (nI f) (nI l) (sc := nI s); exact h9)) ?_
  refine xw_istore_n (l' := [(1, _), (0, _)]) (pc := 144) dX6_read_144 rfl (by decide) rfl ?_
  refine xw_iload_n (pc := 145) dX6_read_145 0 rfl ?_
  refine xw_if_ne (pc := 146) 157 dX6_read_146 rfl (fun hb146 => ?_) (fun hb146 => ?_)
  · exfalso
    replace hb146 : ¬ ((hindD (S 1) rr none s f l).1 = 0) := mt (nI_eq (a := (hindD (S 1) rr none s f l).1) (b := 0) (by omega) (by omega)).mpr hb146
    omega
  replace hb146 : (hindD (S 1) rr none s f l).1 = 0 := (nI_eq (a := (hindD (S 1) rr none s f l).1) (b := 0) (by omega) (by omega)).mp hb146
  refine xw_aload_n (pc := 149) dX6_read_149 1 rfl ?_
  refine xw_iconst (v := -1) (pc := 150) dX6_read_150 (by decide +kernel) ?_
  refine xw_callV (pc := 151) (xr_V (as := [_]) ok_X6_hindersTests rfl (by decide) q2461 q2463 qs63 (by rw [xtag_with, hM.1]; rfl) (by rw [xtag_with, hM.1]; rfl) dX6_read_151 rfl rfl (Nat.le_of_ble_eq_true rfl)) ((show XM M_X6_hindersTests (d + 5) [.ref m, .int (-1)] (xWith g m (mset (mset S 0 6 (nI 0)) 0 9 (hindD (S 1) rr none s f l).2)) (xOne (some (.int (nI (hindT (FA0 S T.length) T.length).1))) (xWith g m (mset (mset S 0 6 (nI 0)) 0 9 (hindT (FA0 S T.length) T.length).2))) from by have h9 := SP_X6_hindersTests0 (d := d + 1) (S := mset (mset S 0 6 (nI 0)) 0 9 (hindD (S 1) rr none s f l).2) hM T.length hTl h5 (by unfold WFmo; rw [e5, e5]; exact hWm); rw [mset_mset, FA0_0, FA0_0] at h9; exact h9)) ?_
  refine xw_goto (pc := 154) 158 dX6_read_154 rfl ?_
  refine xw_istore_n (l' := [(1, _), (0, _)]) (pc := 158) dX6_read_158 rfl (by decide) rfl ?_
  refine xw_iload_n (pc := 159) dX6_read_159 0 rfl ?_
  refine xw_if_le (pc := 160) 174 dX6_read_160 rfl (fun hb160 => ?_) (fun hb160 => ?_)
  · exfalso
    replace hb160 : (hindT (FA0 S T.length) T.length).1 ≤ 0 := (nI_leI (a := (hindT (FA0 S T.length) T.length).1) (b := 0) (by omega) (by omega)).mp hb160
    omega
  replace hb160 : ¬ ((hindT (FA0 S T.length) T.length).1 ≤ 0) := mt (nI_leI (a := (hindT (FA0 S T.length) T.length).1) (b := 0) (by omega) (by omega)).mpr hb160
  refine xw_aload_n (pc := 163) dX6_read_163 1 rfl ?_
  refine xw_iconst (v := nI 2) (pc := 164) dX6_read_164 rfl ?_
  refine xw_iload_n (pc := 165) dX6_read_165 0 rfl ?_
  refine xw_aload_n (pc := 166) dX6_read_166 1 rfl ?_
  refine xm_getE (pc := 167) hM fd_X6_115 dX6_read_167 (show _ = (hindT (FA0 S T.length) T.length).2 from rfl) ?_
  refine xw_callV (pc := 170) (xr_V (as := [_, _, _]) ok_X6_refuse rfl (by decide) q2433 q2435 qs58 (by rw [xtag_with, hM.1]; rfl) (by rw [xtag_with, hM.1]; rfl) dX6_read_170 rfl rfl (Nat.le_of_ble_eq_true rfl)) (SP_X6_refuse hM) ?_
  refine xw_iret (pc := 173) .int dX6_read_173 rfl ?_ 
  exact ⟨rfl, rfl⟩
theorem rd_O_n {d : Nat} {g : xG} {m : Nat} {S : xMS} (hM : xMod g m) (n rr p : Nat) (n0 : 0 < n) (hn : n ≤ 10) (hr : rr ≤ 16) (hp : p ≤ 8) (h0 : S 1 0 = nI n) (h1 : S 1 1 = nI rr) (hpm : S 0 5 = nI p) (hW : WFo (S 1) n) (hWp : WFp (S 1) rr) (hWs : WFsc (S 1) n rr) {e : Option Nat} {s f l k : Nat} {T : List xT3} (hs : s < 1000) (hTl : T.length ≤ 60) (hWm : WFmo S T.length) (h26 : S 0 26 = effV e) (h28 : S 0 28 = nI s) (h29 : S 0 29 = nI f) (h30 : S 0 30 = nI l) (h31 : S 0 31 = nI k) (h5 : S 0 11 = nI T.length) (h27 : S 0 27 = -1)  (hlt : s < n) (hh : (hindD (S 1) rr none s f l).1 = 0) (ht : (hindT (FA0 S T.length) T.length).1 = 0) : XW M_X6_read (d + 6) 73 [(0, .ref m)] [] (xWith g m S) (xOne (some (.int (opRd S n rr p (e, none, s, T, f, l, k)).1)) (xWith g m (opRd S n rr p (e, none, s, T, f, l, k)).2)) := by
  have e1 : ∀ (S9 : xMS) j v, (mset S9 0 j v) 1 = S9 1 := fun S9 j v => mset_q (by decide)
  have e5 : ∀ (S9 : xMS) j v, (mset S9 0 j v) 5 = S9 5 := fun S9 j v => mset_q (by decide)
  have hsc : inR (nI s) (nI 0) (nI n - nI 1) = true := inR_k (by omega) hlt
  have hdl := @hindD_le (S 1) rr s f l none
  have htl := @hindT_le (FA0 S T.length) T.length
  dsimp only [opRd]
  rw [if_neg (by simp)]
  rw [if_neg (by omega)]
  rw [if_neg (by omega)]
  rw [if_neg (by omega)]
  refine xw_aload_n (pc := 73) dX6_read_73 0 rfl ?_
  refine xw_iconst (v := nI 0) (pc := 74) dX6_read_74 rfl ?_
  refine xm_putI (pc := 75) hM fd_X6_62 (xfin_of (by decide) (by decide +kernel)) dX6_read_75 ?_
  refine xw_aload_n (pc := 78) dX6_read_78 0 rfl ?_
  refine xm_getE (pc := 79) hM fd_X6_287 dX6_read_79 h27 ?_
  refine xw_aload_n (pc := 82) dX6_read_82 0 rfl ?_
  refine xm_get (p := 1) (pc := 83) hM fd_X6_9 dX6_read_83 rfl ?_
  refine xw_iconst (v := nI 1) (pc := 86) dX6_read_86 rfl ?_
  refine xm_ialdN (v := rr) (pc := 87) hM dX6_read_87 rfl (by omega) (by rw [e1]; exact h1) ?_
  refine xw_icmp_lt (pc := 88) 102 dX6_read_88 rfl (fun hb88 => ?_) (fun hb88 => ?_)
  rotate_left
  · exfalso
    exact hb88 (neg1_lt (by omega))
  refine xw_aload_n (pc := 102) dX6_read_102 0 rfl ?_
  refine xw_aload_n (pc := 103) dX6_read_103 0 rfl ?_
  refine xm_getN (k := s) (pc := 104) hM fd_X6_297 dX6_read_104 (by exact h28) ?_
  refine xw_callV (pc := 107) (xr_V (as := [_]) ok_X6_isScope rfl (by decide) q2360 q2362 qs47 (by rw [xtag_with, hM.1]; rfl) (by rw [xtag_with, hM.1]; rfl) dX6_read_107 rfl rfl (Nat.le_of_ble_eq_true rfl)) ((show XM M_X6_isScope (d + 5) [.ref m, .int (nI s)] (xWith g m (mset S 0 6 (nI 0))) (xOne (some (.int (bI true))) (xWith g m (mset S 0 6 (nI 0)))) from by have h9 := SP_X6_isScope (d := d + 4) (S := mset S 0 6 (nI 0)) hM (v := nI s); rw [e1, h0, hsc] at h9; exact h9)) ?_
  refine xw_if_ne (pc := 110) 124 dX6_read_110 rfl (fun _ => ?_) (fun hb => absurd hb (by decide))
  refine xw_aload_n (pc := 124) dX6_read_124 0 rfl ?_
  refine xw_aload_n (pc := 125) dX6_read_125 0 rfl ?_
  refine xm_getE (pc := 126) hM fd_X6_287 dX6_read_126 h27 ?_
  refine xw_aload_n (pc := 129) dX6_read_129 0 rfl ?_
  refine xm_getN (k := s) (pc := 130) hM fd_X6_297 dX6_read_130 (by exact h28) ?_
  refine xw_aload_n (pc := 133) dX6_read_133 0 rfl ?_
  refine xm_getN (k := f) (pc := 134) hM fd_X6_303 dX6_read_134 (by exact h29) ?_
  refine xw_aload_n (pc := 137) dX6_read_137 0 rfl ?_
  refine xm_getN (k := l) (pc := 138) hM fd_X6_306 dX6_read_138 (by exact h30) ?_
  refine xw_callV (pc := 141) (xr_V (as := [_, _, _, _]) ok_X6_hinders rfl (by decide) q2425 q2427 qs56 (by rw [xtag_with, hM.1]; rfl) (by rw [xtag_with, hM.1]; rfl) dX6_read_141 rfl rfl (Nat.le_of_ble_eq_true rfl)) ((show XM M_X6_hinders (d + 5) [.ref m, .int (-1), .int (nI s), .int (nI f), .int (nI l)] (xWith g m (mset S 0 6 (nI 0))) (xOne (some (.int (nI (hindD (S 1) rr none s f l).1))) (xWith g m (mset (mset S 0 6 (nI 0)) 0 9 (hindD (S 1) rr none s f l).2))) from by have h9 := SP_X6_hinders0 (S := mset S 0 6 (nI 0)) (d := d + 2) hM rr hr (by rw [e1]; exact h1) (nI f) (nI l) (sc := nI s); exact h9)) ?_
  refine xw_istore_n (l' := [(1, _), (0, _)]) (pc := 144) dX6_read_144 rfl (by decide) rfl ?_
  refine xw_iload_n (pc := 145) dX6_read_145 0 rfl ?_
  refine xw_if_ne (pc := 146) 157 dX6_read_146 rfl (fun hb146 => ?_) (fun hb146 => ?_)
  · exfalso
    replace hb146 : ¬ ((hindD (S 1) rr none s f l).1 = 0) := mt (nI_eq (a := (hindD (S 1) rr none s f l).1) (b := 0) (by omega) (by omega)).mpr hb146
    omega
  replace hb146 : (hindD (S 1) rr none s f l).1 = 0 := (nI_eq (a := (hindD (S 1) rr none s f l).1) (b := 0) (by omega) (by omega)).mp hb146
  refine xw_aload_n (pc := 149) dX6_read_149 1 rfl ?_
  refine xw_iconst (v := -1) (pc := 150) dX6_read_150 (by decide +kernel) ?_
  refine xw_callV (pc := 151) (xr_V (as := [_]) ok_X6_hindersTests rfl (by decide) q2461 q2463 qs63 (by rw [xtag_with, hM.1]; rfl) (by rw [xtag_with, hM.1]; rfl) dX6_read_151 rfl rfl (Nat.le_of_ble_eq_true rfl)) ((show XM M_X6_hindersTests (d + 5) [.ref m, .int (-1)] (xWith g m (mset (mset S 0 6 (nI 0)) 0 9 (hindD (S 1) rr none s f l).2)) (xOne (some (.int (nI (hindT (FA0 S T.length) T.length).1))) (xWith g m (mset (mset S 0 6 (nI 0)) 0 9 (hindT (FA0 S T.length) T.length).2))) from by have h9 := SP_X6_hindersTests0 (d := d + 1) (S := mset (mset S 0 6 (nI 0)) 0 9 (hindD (S 1) rr none s f l).2) hM T.length hTl h5 (by unfold WFmo; rw [e5, e5]; exact hWm); rw [mset_mset, FA0_0, FA0_0] at h9; exact h9)) ?_
  refine xw_goto (pc := 154) 158 dX6_read_154 rfl ?_
  refine xw_istore_n (l' := [(1, _), (0, _)]) (pc := 158) dX6_read_158 rfl (by decide) rfl ?_
  refine xw_iload_n (pc := 159) dX6_read_159 0 rfl ?_
  refine xw_if_le (pc := 160) 174 dX6_read_160 rfl (fun hb160 => ?_) (fun hb160 => ?_)
  rotate_left
  · exfalso
    replace hb160 : ¬ ((hindT (FA0 S T.length) T.length).1 ≤ 0) := mt (nI_leI (a := (hindT (FA0 S T.length) T.length).1) (b := 0) (by omega) (by omega)).mpr hb160
    omega
  replace hb160 : (hindT (FA0 S T.length) T.length).1 ≤ 0 := (nI_leI (a := (hindT (FA0 S T.length) T.length).1) (b := 0) (by omega) (by omega)).mp hb160
  refine xw_aload_n (pc := 174) dX6_read_174 1 rfl ?_
  refine xw_callU (pc := 175) (xr_V (as := []) ok_X6_keepState rfl (by decide) q2367 q2369 qs48 (by rw [xtag_with, hM.1]; rfl) (by rw [xtag_with, hM.1]; rfl) dX6_read_175 rfl rfl (Nat.le_of_ble_eq_true rfl)) (SP_X6_keepState hM) ?_
  refine xw_aload_n (pc := 178) dX6_read_178 1 rfl ?_
  refine xw_callU (pc := 179) (xr_V (as := []) ok_X6_change rfl (by decide) q2372 q2374 qs49 (by rw [xtag_with, hM.1]; rfl) (by rw [xtag_with, hM.1]; rfl) dX6_read_179 rfl rfl (Nat.le_of_ble_eq_true rfl)) ((SP_X6_change (S := mcpy (mset (mset S 0 6 (nI 0)) 0 9 (hindT (FA0 S T.length) T.length).2) 1 2 0 0 391) hM p hp hpm)) ?_
  show XW _ _ 182 _ _ (xWith g m (push (mset (mset S 0 6 (nI 0)) 0 9 (hindT (FA0 S T.length) T.length).2) p)) _
  refine xw_aload_n (pc := 182) dX6_read_182 1 rfl ?_
  refine xw_aload_n (pc := 183) dX6_read_183 1 rfl ?_
  refine xm_getE (pc := 184) hM fd_X6_284 dX6_read_184 (show push (mset (mset S 0 6 (nI 0)) 0 9 (hindT (FA0 S T.length) T.length).2) p 0 _ = _ from push_0.trans h26) ?_
  refine xw_aload_n (pc := 187) dX6_read_187 1 rfl ?_
  refine xm_getE (pc := 188) hM fd_X6_287 dX6_read_188 (show push (mset (mset S 0 6 (nI 0)) 0 9 (hindT (FA0 S T.length) T.length).2) p 0 _ = _ from push_0.trans h27) ?_
  refine xw_aload_n (pc := 191) dX6_read_191 1 rfl ?_
  refine xm_getN (pc := 192) hM fd_X6_297 dX6_read_192 (show push (mset (mset S 0 6 (nI 0)) 0 9 (hindT (FA0 S T.length) T.length).2) p 0 _ = nI s from push_0.trans h28) ?_
  refine xw_aload_n (pc := 195) dX6_read_195 1 rfl ?_
  refine xm_getN (pc := 196) hM fd_X6_309 dX6_read_196 (show push (mset (mset S 0 6 (nI 0)) 0 9 (hindT (FA0 S T.length) T.length).2) p 0 _ = nI k from push_0.trans h31) ?_
  refine xw_aload_n (pc := 199) dX6_read_199 1 rfl ?_
  refine xm_getN (pc := 200) hM fd_X6_303 dX6_read_200 (show push (mset (mset S 0 6 (nI 0)) 0 9 (hindT (FA0 S T.length) T.length).2) p 0 _ = nI f from push_0.trans h29) ?_
  refine xw_aload_n (pc := 203) dX6_read_203 1 rfl ?_
  refine xm_getN (pc := 204) hM fd_X6_306 dX6_read_204 (show push (mset (mset S 0 6 (nI 0)) 0 9 (hindT (FA0 S T.length) T.length).2) p 0 _ = nI l from push_0.trans h30) ?_
  refine xw_callV (pc := 207) (xr_V (as := [_, _, _, _, _, _]) ok_X6_put rfl (by decide) q2437 q2439 qs59 (by rw [xtag_with, hM.1]; rfl) (by rw [xtag_with, hM.1]; rfl) dX6_read_207 rfl rfl (Nat.le_of_ble_eq_true rfl)) (SP_X6_put (S := push (mset (mset S 0 6 (nI 0)) 0 9 (hindT (FA0 S T.length) T.length).2) p) hM rr (hindD_rr hr hh) (by rw [push_1, e1, e1]; exact h1) (effV e) (-1) (nI s) (nI k) (nI f) (nI l)) ?_
  refine xw_istore_n (l' := [(2, _), (1, _), (0, _)]) (pc := 210) dX6_read_210 rfl (by decide) rfl ?_
  refine xw_aload_n (pc := 211) dX6_read_211 2 rfl ?_
  refine xw_iload_n (pc := 212) dX6_read_212 0 rfl ?_
  refine xw_callU (pc := 213) (xr_V (as := [_]) ok_X6_putTests rfl (by decide) q2476 q2478 qs66 (by rw [xtag_with, hM.1]; rfl) (by rw [xtag_with, hM.1]; rfl) dX6_read_213 rfl rfl (Nat.le_of_ble_eq_true rfl)) (SP_X6_putTests (S := putR (push (mset (mset S 0 6 (nI 0)) 0 9 (hindT (FA0 S T.length) T.length).2) p) rr (effV e) (-1) (nI s) (nI k) (nI f) (nI l)) hM rr 0 T.length (hindD_rr hr hh) (by have := hindT_c (FA := FA0 S T.length) (c := T.length) (by omega); omega) (putR_7 (hindD_rr hr hh)) (by rw [putR_0, push_0]; exact h5)) ?_
  refine xw_iload_n (pc := 216) dX6_read_216 0 rfl ?_
  refine xw_iret (pc := 217) .int dX6_read_217 rfl ?_ 
  exact ⟨rfl, rfl⟩
theorem rd_P_q {d : Nat} {g : xG} {m : Nat} {S : xMS} (hM : xMod g m) (n rr p : Nat) (n0 : 0 < n) (hn : n ≤ 10) (hr : rr ≤ 16) (hp : p ≤ 8) (h0 : S 1 0 = nI n) (h1 : S 1 1 = nI rr) (hpm : S 0 5 = nI p) (hW : WFo (S 1) n) (hWp : WFp (S 1) rr) (hWs : WFsc (S 1) n rr) {e : Option Nat} {s f l k : Nat} {T : List xT3} (hs : s < 1000) (hTl : T.length ≤ 60) (hWm : WFmo S T.length) (h26 : S 0 26 = effV e) (h28 : S 0 28 = nI s) (h29 : S 0 29 = nI f) (h30 : S 0 30 = nI l) (h31 : S 0 31 = nI k) (h5 : S 0 11 = nI T.length) {q : Nat} (hq : q < 1000) (h27 : S 0 27 = nI q)  (hqr : ¬ q < rr) : XW M_X6_read (d + 6) 73 [(0, .ref m)] [] (xWith g m S) (xOne (some (.int (opRd S n rr p (e, (some q), s, T, f, l, k)).1)) (xWith g m (opRd S n rr p (e, (some q), s, T, f, l, k)).2)) := by
  have e1 : ∀ (S9 : xMS) j v, (mset S9 0 j v) 1 = S9 1 := fun S9 j v => mset_q (by decide)
  have e5 : ∀ (S9 : xMS) j v, (mset S9 0 j v) 5 = S9 5 := fun S9 j v => mset_q (by decide)
  dsimp only [opRd]
  rw [if_pos (by simp; omega)]
  refine xw_aload_n (pc := 73) dX6_read_73 0 rfl ?_
  refine xw_iconst (v := nI 0) (pc := 74) dX6_read_74 rfl ?_
  refine xm_putI (pc := 75) hM fd_X6_62 (xfin_of (by decide) (by decide +kernel)) dX6_read_75 ?_
  refine xw_aload_n (pc := 78) dX6_read_78 0 rfl ?_
  refine xm_getN (k := q) (pc := 79) hM fd_X6_287 dX6_read_79 (by exact h27) ?_
  refine xw_aload_n (pc := 82) dX6_read_82 0 rfl ?_
  refine xm_get (p := 1) (pc := 83) hM fd_X6_9 dX6_read_83 rfl ?_
  refine xw_iconst (v := nI 1) (pc := 86) dX6_read_86 rfl ?_
  refine xm_ialdN (v := rr) (pc := 87) hM dX6_read_87 rfl (by omega) (by rw [e1]; exact h1) ?_
  refine xw_icmp_lt (pc := 88) 102 dX6_read_88 rfl (fun hb88 => ?_) (fun hb88 => ?_)
  · exfalso
    replace hb88 : q < rr := (nI_ltI (a := q) (b := rr) (by omega) (by omega)).mp hb88
    omega
  replace hb88 : ¬ (q < rr) := mt (nI_ltI (a := q) (b := rr) (by omega) (by omega)).mpr hb88
  refine xw_aload_n (pc := 91) dX6_read_91 0 rfl ?_
  refine xw_iconst (v := nI 2) (pc := 92) dX6_read_92 rfl ?_
  refine xw_iconst (v := nI 1) (pc := 93) dX6_read_93 rfl ?_
  refine xw_aload_n (pc := 94) dX6_read_94 0 rfl ?_
  refine xm_getN (k := q) (pc := 95) hM fd_X6_287 dX6_read_95 (by exact h27) ?_
  refine xw_callV (pc := 98) (xr_V (as := [_, _, _]) ok_X6_refuse rfl (by decide) q2433 q2435 qs58 (by rw [xtag_with, hM.1]; rfl) (by rw [xtag_with, hM.1]; rfl) dX6_read_98 rfl rfl (Nat.le_of_ble_eq_true rfl)) (SP_X6_refuse hM) ?_
  refine xw_iret (pc := 101) .int dX6_read_101 rfl ?_ 
  exact ⟨rfl, rfl⟩
theorem rd_S_q {d : Nat} {g : xG} {m : Nat} {S : xMS} (hM : xMod g m) (n rr p : Nat) (n0 : 0 < n) (hn : n ≤ 10) (hr : rr ≤ 16) (hp : p ≤ 8) (h0 : S 1 0 = nI n) (h1 : S 1 1 = nI rr) (hpm : S 0 5 = nI p) (hW : WFo (S 1) n) (hWp : WFp (S 1) rr) (hWs : WFsc (S 1) n rr) {e : Option Nat} {s f l k : Nat} {T : List xT3} (hs : s < 1000) (hTl : T.length ≤ 60) (hWm : WFmo S T.length) (h26 : S 0 26 = effV e) (h28 : S 0 28 = nI s) (h29 : S 0 29 = nI f) (h30 : S 0 30 = nI l) (h31 : S 0 31 = nI k) (h5 : S 0 11 = nI T.length) {q : Nat} (hq : q < 1000) (h27 : S 0 27 = nI q)  (hqr : q < rr) (hlt : ¬ s < n) : XW M_X6_read (d + 6) 73 [(0, .ref m)] [] (xWith g m S) (xOne (some (.int (opRd S n rr p (e, (some q), s, T, f, l, k)).1)) (xWith g m (opRd S n rr p (e, (some q), s, T, f, l, k)).2)) := by
  have e1 : ∀ (S9 : xMS) j v, (mset S9 0 j v) 1 = S9 1 := fun S9 j v => mset_q (by decide)
  have e5 : ∀ (S9 : xMS) j v, (mset S9 0 j v) 5 = S9 5 := fun S9 j v => mset_q (by decide)
  have hsc : inR (nI s) (nI 0) (nI n - nI 1) = false := inR_ge hlt hs (by omega)
  dsimp only [opRd]
  rw [if_neg (by simp; omega)]
  rw [if_pos (by omega)]
  refine xw_aload_n (pc := 73) dX6_read_73 0 rfl ?_
  refine xw_iconst (v := nI 0) (pc := 74) dX6_read_74 rfl ?_
  refine xm_putI (pc := 75) hM fd_X6_62 (xfin_of (by decide) (by decide +kernel)) dX6_read_75 ?_
  refine xw_aload_n (pc := 78) dX6_read_78 0 rfl ?_
  refine xm_getN (k := q) (pc := 79) hM fd_X6_287 dX6_read_79 (by exact h27) ?_
  refine xw_aload_n (pc := 82) dX6_read_82 0 rfl ?_
  refine xm_get (p := 1) (pc := 83) hM fd_X6_9 dX6_read_83 rfl ?_
  refine xw_iconst (v := nI 1) (pc := 86) dX6_read_86 rfl ?_
  refine xm_ialdN (v := rr) (pc := 87) hM dX6_read_87 rfl (by omega) (by rw [e1]; exact h1) ?_
  refine xw_icmp_lt (pc := 88) 102 dX6_read_88 rfl (fun hb88 => ?_) (fun hb88 => ?_)
  rotate_left
  · exfalso
    replace hb88 : ¬ (q < rr) := mt (nI_ltI (a := q) (b := rr) (by omega) (by omega)).mpr hb88
    omega
  replace hb88 : q < rr := (nI_ltI (a := q) (b := rr) (by omega) (by omega)).mp hb88
  refine xw_aload_n (pc := 102) dX6_read_102 0 rfl ?_
  refine xw_aload_n (pc := 103) dX6_read_103 0 rfl ?_
  refine xm_getN (k := s) (pc := 104) hM fd_X6_297 dX6_read_104 (by exact h28) ?_
  refine xw_callV (pc := 107) (xr_V (as := [_]) ok_X6_isScope rfl (by decide) q2360 q2362 qs47 (by rw [xtag_with, hM.1]; rfl) (by rw [xtag_with, hM.1]; rfl) dX6_read_107 rfl rfl (Nat.le_of_ble_eq_true rfl)) ((show XM M_X6_isScope (d + 5) [.ref m, .int (nI s)] (xWith g m (mset S 0 6 (nI 0))) (xOne (some (.int (bI false))) (xWith g m (mset S 0 6 (nI 0)))) from by have h9 := SP_X6_isScope (d := d + 4) (S := mset S 0 6 (nI 0)) hM (v := nI s); rw [e1, h0, hsc] at h9; exact h9)) ?_
  refine xw_if_ne (pc := 110) 124 dX6_read_110 rfl (fun hb => absurd hb (by decide)) (fun _ => ?_)
  refine xw_aload_n (pc := 113) dX6_read_113 0 rfl ?_
  refine xw_iconst (v := nI 2) (pc := 114) dX6_read_114 rfl ?_
  refine xw_iconst (v := nI 1) (pc := 115) dX6_read_115 rfl ?_
  refine xw_aload_n (pc := 116) dX6_read_116 0 rfl ?_
  refine xm_getN (k := s) (pc := 117) hM fd_X6_297 dX6_read_117 (by exact h28) ?_
  refine xw_callV (pc := 120) (xr_V (as := [_, _, _]) ok_X6_refuse rfl (by decide) q2433 q2435 qs58 (by rw [xtag_with, hM.1]; rfl) (by rw [xtag_with, hM.1]; rfl) dX6_read_120 rfl rfl (Nat.le_of_ble_eq_true rfl)) (SP_X6_refuse hM) ?_
  refine xw_iret (pc := 123) .int dX6_read_123 rfl ?_ 
  exact ⟨rfl, rfl⟩
theorem rd_H_q {d : Nat} {g : xG} {m : Nat} {S : xMS} (hM : xMod g m) (n rr p : Nat) (n0 : 0 < n) (hn : n ≤ 10) (hr : rr ≤ 16) (hp : p ≤ 8) (h0 : S 1 0 = nI n) (h1 : S 1 1 = nI rr) (hpm : S 0 5 = nI p) (hW : WFo (S 1) n) (hWp : WFp (S 1) rr) (hWs : WFsc (S 1) n rr) {e : Option Nat} {s f l k : Nat} {T : List xT3} (hs : s < 1000) (hTl : T.length ≤ 60) (hWm : WFmo S T.length) (h26 : S 0 26 = effV e) (h28 : S 0 28 = nI s) (h29 : S 0 29 = nI f) (h30 : S 0 30 = nI l) (h31 : S 0 31 = nI k) (h5 : S 0 11 = nI T.length) {q : Nat} (hq : q < 1000) (h27 : S 0 27 = nI q)  (hqr : q < rr) (hlt : s < n) (hh : (hindD (S 1) rr (some q) s f l).1 ≠ 0) : XW M_X6_read (d + 6) 73 [(0, .ref m)] [] (xWith g m S) (xOne (some (.int (opRd S n rr p (e, (some q), s, T, f, l, k)).1)) (xWith g m (opRd S n rr p (e, (some q), s, T, f, l, k)).2)) := by
  have e1 : ∀ (S9 : xMS) j v, (mset S9 0 j v) 1 = S9 1 := fun S9 j v => mset_q (by decide)
  have e5 : ∀ (S9 : xMS) j v, (mset S9 0 j v) 5 = S9 5 := fun S9 j v => mset_q (by decide)
  have hsc : inR (nI s) (nI 0) (nI n - nI 1) = true := inR_k (by omega) hlt
  have hdl := @hindD_le (S 1) rr s f l (some q)
  dsimp only [opRd]
  rw [if_neg (by simp; omega)]
  rw [if_neg (by omega)]
  rw [if_pos hh]
  refine xw_aload_n (pc := 73) dX6_read_73 0 rfl ?_
  refine xw_iconst (v := nI 0) (pc := 74) dX6_read_74 rfl ?_
  refine xm_putI (pc := 75) hM fd_X6_62 (xfin_of (by decide) (by decide +kernel)) dX6_read_75 ?_
  refine xw_aload_n (pc := 78) dX6_read_78 0 rfl ?_
  refine xm_getN (k := q) (pc := 79) hM fd_X6_287 dX6_read_79 (by exact h27) ?_
  refine xw_aload_n (pc := 82) dX6_read_82 0 rfl ?_
  refine xm_get (p := 1) (pc := 83) hM fd_X6_9 dX6_read_83 rfl ?_
  refine xw_iconst (v := nI 1) (pc := 86) dX6_read_86 rfl ?_
  refine xm_ialdN (v := rr) (pc := 87) hM dX6_read_87 rfl (by omega) (by rw [e1]; exact h1) ?_
  refine xw_icmp_lt (pc := 88) 102 dX6_read_88 rfl (fun hb88 => ?_) (fun hb88 => ?_)
  rotate_left
  · exfalso
    replace hb88 : ¬ (q < rr) := mt (nI_ltI (a := q) (b := rr) (by omega) (by omega)).mpr hb88
    omega
  replace hb88 : q < rr := (nI_ltI (a := q) (b := rr) (by omega) (by omega)).mp hb88
  refine xw_aload_n (pc := 102) dX6_read_102 0 rfl ?_
  refine xw_aload_n (pc := 103) dX6_read_103 0 rfl ?_
  refine xm_getN (k := s) (pc := 104) hM fd_X6_297 dX6_read_104 (by exact h28) ?_
  refine xw_callV (pc := 107) (xr_V (as := [_]) ok_X6_isScope rfl (by decide) q2360 q2362 qs47 (by rw [xtag_with, hM.1]; rfl) (by rw [xtag_with, hM.1]; rfl) dX6_read_107 rfl rfl (Nat.le_of_ble_eq_true rfl)) ((show XM M_X6_isScope (d + 5) [.ref m, .int (nI s)] (xWith g m (mset S 0 6 (nI 0))) (xOne (some (.int (bI true))) (xWith g m (mset S 0 6 (nI 0)))) from by have h9 := SP_X6_isScope (d := d + 4) (S := mset S 0 6 (nI 0)) hM (v := nI s); rw [e1, h0, hsc] at h9; exact h9)) ?_
  refine xw_if_ne (pc := 110) 124 dX6_read_110 rfl (fun _ => ?_) (fun hb => absurd hb (by decide))
  refine xw_aload_n (pc := 124) dX6_read_124 0 rfl ?_
  refine xw_aload_n (pc := 125) dX6_read_125 0 rfl ?_
  refine xm_getN (k := q) (pc := 126) hM fd_X6_287 dX6_read_126 (by exact h27) ?_
  refine xw_aload_n (pc := 129) dX6_read_129 0 rfl ?_
  refine xm_getN (k := s) (pc := 130) hM fd_X6_297 dX6_read_130 (by exact h28) ?_
  refine xw_aload_n (pc := 133) dX6_read_133 0 rfl ?_
  refine xm_getN (k := f) (pc := 134) hM fd_X6_303 dX6_read_134 (by exact h29) ?_
  refine xw_aload_n (pc := 137) dX6_read_137 0 rfl ?_
  refine xm_getN (k := l) (pc := 138) hM fd_X6_306 dX6_read_138 (by exact h30) ?_
  refine xw_callV (pc := 141) (xr_V (as := [_, _, _, _]) ok_X6_hinders rfl (by decide) q2425 q2427 qs56 (by rw [xtag_with, hM.1]; rfl) (by rw [xtag_with, hM.1]; rfl) dX6_read_141 rfl rfl (Nat.le_of_ble_eq_true rfl)) ((show XM M_X6_hinders (d + 5) [.ref m, .int (nI q), .int (nI s), .int (nI f), .int (nI l)] (xWith g m (mset S 0 6 (nI 0))) (xOne (some (.int (nI (hindD (S 1) rr (some q) s f l).1))) (xWith g m (mset (mset S 0 6 (nI 0)) 0 9 (hindD (S 1) rr (some q) s f l).2))) from by have h9 := SP_X6_hindersQ (S := mset S 0 6 (nI 0)) (d := d + 2) hM n hn rr hr (by rw [e1]; exact h1) (nI f) (nI l) (by rw [e1]; exact hW) (by rw [e1]; exact hWp) (by rw [e1]; exact hWs) q s hqr hlt; rw [e1] at h9; exact h9)) ?_
  refine xw_istore_n (l' := [(1, _), (0, _)]) (pc := 144) dX6_read_144 rfl (by decide) rfl ?_
  refine xw_iload_n (pc := 145) dX6_read_145 0 rfl ?_
  refine xw_if_ne (pc := 146) 157 dX6_read_146 rfl (fun hb146 => ?_) (fun hb146 => ?_)
  rotate_left
  · exfalso
    replace hb146 : (hindD (S 1) rr (some q) s f l).1 = 0 := (nI_eq (a := (hindD (S 1) rr (some q) s f l).1) (b := 0) (by omega) (by omega)).mp hb146
    omega
  replace hb146 : ¬ ((hindD (S 1) rr (some q) s f l).1 = 0) := mt (nI_eq (a := (hindD (S 1) rr (some q) s f l).1) (b := 0) (by omega) (by omega)).mpr hb146
  refine xw_iload_n (pc := 157) dX6_read_157 0 rfl ?_
  refine xw_istore_n (l' := [(1, _), (0, _)]) (pc := 158) dX6_read_158 rfl (by decide) rfl ?_
  refine xw_iload_n (pc := 159) dX6_read_159 0 rfl ?_
  refine xw_if_le (pc := 160) 174 dX6_read_160 rfl (fun hb160 => ?_) (fun hb160 => ?_)
  · exfalso
    replace hb160 : (hindD (S 1) rr (some q) s f l).1 ≤ 0 := (nI_leI (a := (hindD (S 1) rr (some q) s f l).1) (b := 0) (by omega) (by omega)).mp hb160
    omega
  replace hb160 : ¬ ((hindD (S 1) rr (some q) s f l).1 ≤ 0) := mt (nI_leI (a := (hindD (S 1) rr (some q) s f l).1) (b := 0) (by omega) (by omega)).mpr hb160
  refine xw_aload_n (pc := 163) dX6_read_163 1 rfl ?_
  refine xw_iconst (v := nI 2) (pc := 164) dX6_read_164 rfl ?_
  refine xw_iload_n (pc := 165) dX6_read_165 0 rfl ?_
  refine xw_aload_n (pc := 166) dX6_read_166 1 rfl ?_
  refine xm_getE (pc := 167) hM fd_X6_115 dX6_read_167 (show _ = (hindD (S 1) rr (some q) s f l).2 from rfl) ?_
  refine xw_callV (pc := 170) (xr_V (as := [_, _, _]) ok_X6_refuse rfl (by decide) q2433 q2435 qs58 (by rw [xtag_with, hM.1]; rfl) (by rw [xtag_with, hM.1]; rfl) dX6_read_170 rfl rfl (Nat.le_of_ble_eq_true rfl)) (SP_X6_refuse hM) ?_
  refine xw_iret (pc := 173) .int dX6_read_173 rfl ?_ 
  exact ⟨rfl, rfl⟩
theorem rd_T_q {d : Nat} {g : xG} {m : Nat} {S : xMS} (hM : xMod g m) (n rr p : Nat) (n0 : 0 < n) (hn : n ≤ 10) (hr : rr ≤ 16) (hp : p ≤ 8) (h0 : S 1 0 = nI n) (h1 : S 1 1 = nI rr) (hpm : S 0 5 = nI p) (hW : WFo (S 1) n) (hWp : WFp (S 1) rr) (hWs : WFsc (S 1) n rr) {e : Option Nat} {s f l k : Nat} {T : List xT3} (hs : s < 1000) (hTl : T.length ≤ 60) (hWm : WFmo S T.length) (h26 : S 0 26 = effV e) (h28 : S 0 28 = nI s) (h29 : S 0 29 = nI f) (h30 : S 0 30 = nI l) (h31 : S 0 31 = nI k) (h5 : S 0 11 = nI T.length) {q : Nat} (hq : q < 1000) (h27 : S 0 27 = nI q)  (hqr : q < rr) (hlt : s < n) (hh : (hindD (S 1) rr (some q) s f l).1 = 0) (ht : (hindT (FA0 S T.length) T.length).1 ≠ 0) : XW M_X6_read (d + 6) 73 [(0, .ref m)] [] (xWith g m S) (xOne (some (.int (opRd S n rr p (e, (some q), s, T, f, l, k)).1)) (xWith g m (opRd S n rr p (e, (some q), s, T, f, l, k)).2)) := by
  have e1 : ∀ (S9 : xMS) j v, (mset S9 0 j v) 1 = S9 1 := fun S9 j v => mset_q (by decide)
  have e5 : ∀ (S9 : xMS) j v, (mset S9 0 j v) 5 = S9 5 := fun S9 j v => mset_q (by decide)
  have hsc : inR (nI s) (nI 0) (nI n - nI 1) = true := inR_k (by omega) hlt
  have hdl := @hindD_le (S 1) rr s f l (some q)
  have htl := @hindT_le (FA0 S T.length) T.length
  dsimp only [opRd]
  rw [if_neg (by simp; omega)]
  rw [if_neg (by omega)]
  rw [if_neg (by omega)]
  rw [if_pos ht]
  refine xw_aload_n (pc := 73) dX6_read_73 0 rfl ?_
  refine xw_iconst (v := nI 0) (pc := 74) dX6_read_74 rfl ?_
  refine xm_putI (pc := 75) hM fd_X6_62 (xfin_of (by decide) (by decide +kernel)) dX6_read_75 ?_
  refine xw_aload_n (pc := 78) dX6_read_78 0 rfl ?_
  refine xm_getN (k := q) (pc := 79) hM fd_X6_287 dX6_read_79 (by exact h27) ?_
  refine xw_aload_n (pc := 82) dX6_read_82 0 rfl ?_
  refine xm_get (p := 1) (pc := 83) hM fd_X6_9 dX6_read_83 rfl ?_
  refine xw_iconst (v := nI 1) (pc := 86) dX6_read_86 rfl ?_
  refine xm_ialdN (v := rr) (pc := 87) hM dX6_read_87 rfl (by omega) (by rw [e1]; exact h1) ?_
  refine xw_icmp_lt (pc := 88) 102 dX6_read_88 rfl (fun hb88 => ?_) (fun hb88 => ?_)
  rotate_left
  · exfalso
    replace hb88 : ¬ (q < rr) := mt (nI_ltI (a := q) (b := rr) (by omega) (by omega)).mpr hb88
    omega
  replace hb88 : q < rr := (nI_ltI (a := q) (b := rr) (by omega) (by omega)).mp hb88
  refine xw_aload_n (pc := 102) dX6_read_102 0 rfl ?_
  refine xw_aload_n (pc := 103) dX6_read_103 0 rfl ?_
  refine xm_getN (k := s) (pc := 104) hM fd_X6_297 dX6_read_104 (by exact h28) ?_
  refine xw_callV (pc := 107) (xr_V (as := [_]) ok_X6_isScope rfl (by decide) q2360 q2362 qs47 (by rw [xtag_with, hM.1]; rfl) (by rw [xtag_with, hM.1]; rfl) dX6_read_107 rfl rfl (Nat.le_of_ble_eq_true rfl)) ((show XM M_X6_isScope (d + 5) [.ref m, .int (nI s)] (xWith g m (mset S 0 6 (nI 0))) (xOne (some (.int (bI true))) (xWith g m (mset S 0 6 (nI 0)))) from by have h9 := SP_X6_isScope (d := d + 4) (S := mset S 0 6 (nI 0)) hM (v := nI s); rw [e1, h0, hsc] at h9; exact h9)) ?_
  refine xw_if_ne (pc := 110) 124 dX6_read_110 rfl (fun _ => ?_) (fun hb => absurd hb (by decide))
  refine xw_aload_n (pc := 124) dX6_read_124 0 rfl ?_
  refine xw_aload_n (pc := 125) dX6_read_125 0 rfl ?_
  refine xm_getN (k := q) (pc := 126) hM fd_X6_287 dX6_read_126 (by exact h27) ?_
  refine xw_aload_n (pc := 129) dX6_read_129 0 rfl ?_
  refine xm_getN (k := s) (pc := 130) hM fd_X6_297 dX6_read_130 (by exact h28) ?_
  refine xw_aload_n (pc := 133) dX6_read_133 0 rfl ?_
  refine xm_getN (k := f) (pc := 134) hM fd_X6_303 dX6_read_134 (by exact h29) ?_
  refine xw_aload_n (pc := 137) dX6_read_137 0 rfl ?_
  refine xm_getN (k := l) (pc := 138) hM fd_X6_306 dX6_read_138 (by exact h30) ?_
  refine xw_callV (pc := 141) (xr_V (as := [_, _, _, _]) ok_X6_hinders rfl (by decide) q2425 q2427 qs56 (by rw [xtag_with, hM.1]; rfl) (by rw [xtag_with, hM.1]; rfl) dX6_read_141 rfl rfl (Nat.le_of_ble_eq_true rfl)) ((show XM M_X6_hinders (d + 5) [.ref m, .int (nI q), .int (nI s), .int (nI f), .int (nI l)] (xWith g m (mset S 0 6 (nI 0))) (xOne (some (.int (nI (hindD (S 1) rr (some q) s f l).1))) (xWith g m (mset (mset S 0 6 (nI 0)) 0 9 (hindD (S 1) rr (some q) s f l).2))) from by have h9 := SP_X6_hindersQ (S := mset S 0 6 (nI 0)) (d := d + 2) hM n hn rr hr (by rw [e1]; exact h1) (nI f) (nI l) (by rw [e1]; exact hW) (by rw [e1]; exact hWp) (by rw [e1]; exact hWs) q s hqr hlt; rw [e1] at h9; exact h9)) ?_
  refine xw_istore_n (l' := [(1, _), (0, _)]) (pc := 144) dX6_read_144 rfl (by decide) rfl ?_
  refine xw_iload_n (pc := 145) dX6_read_145 0 rfl ?_
  refine xw_if_ne (pc := 146) 157 dX6_read_146 rfl (fun hb146 => ?_) (fun hb146 => ?_)
  · exfalso
    replace hb146 : ¬ ((hindD (S 1) rr (some q) s f l).1 = 0) := mt (nI_eq (a := (hindD (S 1) rr (some q) s f l).1) (b := 0) (by omega) (by omega)).mpr hb146
    omega
  replace hb146 : (hindD (S 1) rr (some q) s f l).1 = 0 := (nI_eq (a := (hindD (S 1) rr (some q) s f l).1) (b := 0) (by omega) (by omega)).mp hb146
  refine xw_aload_n (pc := 149) dX6_read_149 1 rfl ?_
  refine xw_iconst (v := -1) (pc := 150) dX6_read_150 (by decide +kernel) ?_
  refine xw_callV (pc := 151) (xr_V (as := [_]) ok_X6_hindersTests rfl (by decide) q2461 q2463 qs63 (by rw [xtag_with, hM.1]; rfl) (by rw [xtag_with, hM.1]; rfl) dX6_read_151 rfl rfl (Nat.le_of_ble_eq_true rfl)) ((show XM M_X6_hindersTests (d + 5) [.ref m, .int (-1)] (xWith g m (mset (mset S 0 6 (nI 0)) 0 9 (hindD (S 1) rr (some q) s f l).2)) (xOne (some (.int (nI (hindT (FA0 S T.length) T.length).1))) (xWith g m (mset (mset S 0 6 (nI 0)) 0 9 (hindT (FA0 S T.length) T.length).2))) from by have h9 := SP_X6_hindersTests0 (d := d + 1) (S := mset (mset S 0 6 (nI 0)) 0 9 (hindD (S 1) rr (some q) s f l).2) hM T.length hTl h5 (by unfold WFmo; rw [e5, e5]; exact hWm); rw [mset_mset, FA0_0, FA0_0] at h9; exact h9)) ?_
  refine xw_goto (pc := 154) 158 dX6_read_154 rfl ?_
  refine xw_istore_n (l' := [(1, _), (0, _)]) (pc := 158) dX6_read_158 rfl (by decide) rfl ?_
  refine xw_iload_n (pc := 159) dX6_read_159 0 rfl ?_
  refine xw_if_le (pc := 160) 174 dX6_read_160 rfl (fun hb160 => ?_) (fun hb160 => ?_)
  · exfalso
    replace hb160 : (hindT (FA0 S T.length) T.length).1 ≤ 0 := (nI_leI (a := (hindT (FA0 S T.length) T.length).1) (b := 0) (by omega) (by omega)).mp hb160
    omega
  replace hb160 : ¬ ((hindT (FA0 S T.length) T.length).1 ≤ 0) := mt (nI_leI (a := (hindT (FA0 S T.length) T.length).1) (b := 0) (by omega) (by omega)).mpr hb160
  refine xw_aload_n (pc := 163) dX6_read_163 1 rfl ?_
  refine xw_iconst (v := nI 2) (pc := 164) dX6_read_164 rfl ?_
  refine xw_iload_n (pc := 165) dX6_read_165 0 rfl ?_
  refine xw_aload_n (pc := 166) dX6_read_166 1 rfl ?_
  refine xm_getE (pc := 167) hM fd_X6_115 dX6_read_167 (show _ = (hindT (FA0 S T.length) T.length).2 from rfl) ?_
  refine xw_callV (pc := 170) (xr_V (as := [_, _, _]) ok_X6_refuse rfl (by decide) q2433 q2435 qs58 (by rw [xtag_with, hM.1]; rfl) (by rw [xtag_with, hM.1]; rfl) dX6_read_170 rfl rfl (Nat.le_of_ble_eq_true rfl)) (SP_X6_refuse hM) ?_
  refine xw_iret (pc := 173) .int dX6_read_173 rfl ?_ 
  exact ⟨rfl, rfl⟩
theorem rd_O_q {d : Nat} {g : xG} {m : Nat} {S : xMS} (hM : xMod g m) (n rr p : Nat) (n0 : 0 < n) (hn : n ≤ 10) (hr : rr ≤ 16) (hp : p ≤ 8) (h0 : S 1 0 = nI n) (h1 : S 1 1 = nI rr) (hpm : S 0 5 = nI p) (hW : WFo (S 1) n) (hWp : WFp (S 1) rr) (hWs : WFsc (S 1) n rr) {e : Option Nat} {s f l k : Nat} {T : List xT3} (hs : s < 1000) (hTl : T.length ≤ 60) (hWm : WFmo S T.length) (h26 : S 0 26 = effV e) (h28 : S 0 28 = nI s) (h29 : S 0 29 = nI f) (h30 : S 0 30 = nI l) (h31 : S 0 31 = nI k) (h5 : S 0 11 = nI T.length) {q : Nat} (hq : q < 1000) (h27 : S 0 27 = nI q)  (hqr : q < rr) (hlt : s < n) (hh : (hindD (S 1) rr (some q) s f l).1 = 0) (ht : (hindT (FA0 S T.length) T.length).1 = 0) : XW M_X6_read (d + 6) 73 [(0, .ref m)] [] (xWith g m S) (xOne (some (.int (opRd S n rr p (e, (some q), s, T, f, l, k)).1)) (xWith g m (opRd S n rr p (e, (some q), s, T, f, l, k)).2)) := by
  have e1 : ∀ (S9 : xMS) j v, (mset S9 0 j v) 1 = S9 1 := fun S9 j v => mset_q (by decide)
  have e5 : ∀ (S9 : xMS) j v, (mset S9 0 j v) 5 = S9 5 := fun S9 j v => mset_q (by decide)
  have hsc : inR (nI s) (nI 0) (nI n - nI 1) = true := inR_k (by omega) hlt
  have hdl := @hindD_le (S 1) rr s f l (some q)
  have htl := @hindT_le (FA0 S T.length) T.length
  dsimp only [opRd]
  rw [if_neg (by simp; omega)]
  rw [if_neg (by omega)]
  rw [if_neg (by omega)]
  rw [if_neg (by omega)]
  refine xw_aload_n (pc := 73) dX6_read_73 0 rfl ?_
  refine xw_iconst (v := nI 0) (pc := 74) dX6_read_74 rfl ?_
  refine xm_putI (pc := 75) hM fd_X6_62 (xfin_of (by decide) (by decide +kernel)) dX6_read_75 ?_
  refine xw_aload_n (pc := 78) dX6_read_78 0 rfl ?_
  refine xm_getN (k := q) (pc := 79) hM fd_X6_287 dX6_read_79 (by exact h27) ?_
  refine xw_aload_n (pc := 82) dX6_read_82 0 rfl ?_
  refine xm_get (p := 1) (pc := 83) hM fd_X6_9 dX6_read_83 rfl ?_
  refine xw_iconst (v := nI 1) (pc := 86) dX6_read_86 rfl ?_
  refine xm_ialdN (v := rr) (pc := 87) hM dX6_read_87 rfl (by omega) (by rw [e1]; exact h1) ?_
  refine xw_icmp_lt (pc := 88) 102 dX6_read_88 rfl (fun hb88 => ?_) (fun hb88 => ?_)
  rotate_left
  · exfalso
    replace hb88 : ¬ (q < rr) := mt (nI_ltI (a := q) (b := rr) (by omega) (by omega)).mpr hb88
    omega
  replace hb88 : q < rr := (nI_ltI (a := q) (b := rr) (by omega) (by omega)).mp hb88
  refine xw_aload_n (pc := 102) dX6_read_102 0 rfl ?_
  refine xw_aload_n (pc := 103) dX6_read_103 0 rfl ?_
  refine xm_getN (k := s) (pc := 104) hM fd_X6_297 dX6_read_104 (by exact h28) ?_
  refine xw_callV (pc := 107) (xr_V (as := [_]) ok_X6_isScope rfl (by decide) q2360 q2362 qs47 (by rw [xtag_with, hM.1]; rfl) (by rw [xtag_with, hM.1]; rfl) dX6_read_107 rfl rfl (Nat.le_of_ble_eq_true rfl)) ((show XM M_X6_isScope (d + 5) [.ref m, .int (nI s)] (xWith g m (mset S 0 6 (nI 0))) (xOne (some (.int (bI true))) (xWith g m (mset S 0 6 (nI 0)))) from by have h9 := SP_X6_isScope (d := d + 4) (S := mset S 0 6 (nI 0)) hM (v := nI s); rw [e1, h0, hsc] at h9; exact h9)) ?_
  refine xw_if_ne (pc := 110) 124 dX6_read_110 rfl (fun _ => ?_) (fun hb => absurd hb (by decide))
  refine xw_aload_n (pc := 124) dX6_read_124 0 rfl ?_
  refine xw_aload_n (pc := 125) dX6_read_125 0 rfl ?_
  refine xm_getN (k := q) (pc := 126) hM fd_X6_287 dX6_read_126 (by exact h27) ?_
  refine xw_aload_n (pc := 129) dX6_read_129 0 rfl ?_
  refine xm_getN (k := s) (pc := 130) hM fd_X6_297 dX6_read_130 (by exact h28) ?_
  refine xw_aload_n (pc := 133) dX6_read_133 0 rfl ?_
  refine xm_getN (k := f) (pc := 134) hM fd_X6_303 dX6_read_134 (by exact h29) ?_
  refine xw_aload_n (pc := 137) dX6_read_137 0 rfl ?_
  refine xm_getN (k := l) (pc := 138) hM fd_X6_306 dX6_read_138 (by exact h30) ?_
  refine xw_callV (pc := 141) (xr_V (as := [_, _, _, _]) ok_X6_hinders rfl (by decide) q2425 q2427 qs56 (by rw [xtag_with, hM.1]; rfl) (by rw [xtag_with, hM.1]; rfl) dX6_read_141 rfl rfl (Nat.le_of_ble_eq_true rfl)) ((show XM M_X6_hinders (d + 5) [.ref m, .int (nI q), .int (nI s), .int (nI f), .int (nI l)] (xWith g m (mset S 0 6 (nI 0))) (xOne (some (.int (nI (hindD (S 1) rr (some q) s f l).1))) (xWith g m (mset (mset S 0 6 (nI 0)) 0 9 (hindD (S 1) rr (some q) s f l).2))) from by have h9 := SP_X6_hindersQ (S := mset S 0 6 (nI 0)) (d := d + 2) hM n hn rr hr (by rw [e1]; exact h1) (nI f) (nI l) (by rw [e1]; exact hW) (by rw [e1]; exact hWp) (by rw [e1]; exact hWs) q s hqr hlt; rw [e1] at h9; exact h9)) ?_
  refine xw_istore_n (l' := [(1, _), (0, _)]) (pc := 144) dX6_read_144 rfl (by decide) rfl ?_
  refine xw_iload_n (pc := 145) dX6_read_145 0 rfl ?_
  refine xw_if_ne (pc := 146) 157 dX6_read_146 rfl (fun hb146 => ?_) (fun hb146 => ?_)
  · exfalso
    replace hb146 : ¬ ((hindD (S 1) rr (some q) s f l).1 = 0) := mt (nI_eq (a := (hindD (S 1) rr (some q) s f l).1) (b := 0) (by omega) (by omega)).mpr hb146
    omega
  replace hb146 : (hindD (S 1) rr (some q) s f l).1 = 0 := (nI_eq (a := (hindD (S 1) rr (some q) s f l).1) (b := 0) (by omega) (by omega)).mp hb146
  refine xw_aload_n (pc := 149) dX6_read_149 1 rfl ?_
  refine xw_iconst (v := -1) (pc := 150) dX6_read_150 (by decide +kernel) ?_
  refine xw_callV (pc := 151) (xr_V (as := [_]) ok_X6_hindersTests rfl (by decide) q2461 q2463 qs63 (by rw [xtag_with, hM.1]; rfl) (by rw [xtag_with, hM.1]; rfl) dX6_read_151 rfl rfl (Nat.le_of_ble_eq_true rfl)) ((show XM M_X6_hindersTests (d + 5) [.ref m, .int (-1)] (xWith g m (mset (mset S 0 6 (nI 0)) 0 9 (hindD (S 1) rr (some q) s f l).2)) (xOne (some (.int (nI (hindT (FA0 S T.length) T.length).1))) (xWith g m (mset (mset S 0 6 (nI 0)) 0 9 (hindT (FA0 S T.length) T.length).2))) from by have h9 := SP_X6_hindersTests0 (d := d + 1) (S := mset (mset S 0 6 (nI 0)) 0 9 (hindD (S 1) rr (some q) s f l).2) hM T.length hTl h5 (by unfold WFmo; rw [e5, e5]; exact hWm); rw [mset_mset, FA0_0, FA0_0] at h9; exact h9)) ?_
  refine xw_goto (pc := 154) 158 dX6_read_154 rfl ?_
  refine xw_istore_n (l' := [(1, _), (0, _)]) (pc := 158) dX6_read_158 rfl (by decide) rfl ?_
  refine xw_iload_n (pc := 159) dX6_read_159 0 rfl ?_
  refine xw_if_le (pc := 160) 174 dX6_read_160 rfl (fun hb160 => ?_) (fun hb160 => ?_)
  rotate_left
  · exfalso
    replace hb160 : ¬ ((hindT (FA0 S T.length) T.length).1 ≤ 0) := mt (nI_leI (a := (hindT (FA0 S T.length) T.length).1) (b := 0) (by omega) (by omega)).mpr hb160
    omega
  replace hb160 : (hindT (FA0 S T.length) T.length).1 ≤ 0 := (nI_leI (a := (hindT (FA0 S T.length) T.length).1) (b := 0) (by omega) (by omega)).mp hb160
  refine xw_aload_n (pc := 174) dX6_read_174 1 rfl ?_
  refine xw_callU (pc := 175) (xr_V (as := []) ok_X6_keepState rfl (by decide) q2367 q2369 qs48 (by rw [xtag_with, hM.1]; rfl) (by rw [xtag_with, hM.1]; rfl) dX6_read_175 rfl rfl (Nat.le_of_ble_eq_true rfl)) (SP_X6_keepState hM) ?_
  refine xw_aload_n (pc := 178) dX6_read_178 1 rfl ?_
  refine xw_callU (pc := 179) (xr_V (as := []) ok_X6_change rfl (by decide) q2372 q2374 qs49 (by rw [xtag_with, hM.1]; rfl) (by rw [xtag_with, hM.1]; rfl) dX6_read_179 rfl rfl (Nat.le_of_ble_eq_true rfl)) ((SP_X6_change (S := mcpy (mset (mset S 0 6 (nI 0)) 0 9 (hindT (FA0 S T.length) T.length).2) 1 2 0 0 391) hM p hp hpm)) ?_
  show XW _ _ 182 _ _ (xWith g m (push (mset (mset S 0 6 (nI 0)) 0 9 (hindT (FA0 S T.length) T.length).2) p)) _
  refine xw_aload_n (pc := 182) dX6_read_182 1 rfl ?_
  refine xw_aload_n (pc := 183) dX6_read_183 1 rfl ?_
  refine xm_getE (pc := 184) hM fd_X6_284 dX6_read_184 (show push (mset (mset S 0 6 (nI 0)) 0 9 (hindT (FA0 S T.length) T.length).2) p 0 _ = _ from push_0.trans h26) ?_
  refine xw_aload_n (pc := 187) dX6_read_187 1 rfl ?_
  refine xm_getN (pc := 188) hM fd_X6_287 dX6_read_188 (show push (mset (mset S 0 6 (nI 0)) 0 9 (hindT (FA0 S T.length) T.length).2) p 0 _ = nI q from push_0.trans h27) ?_
  refine xw_aload_n (pc := 191) dX6_read_191 1 rfl ?_
  refine xm_getN (pc := 192) hM fd_X6_297 dX6_read_192 (show push (mset (mset S 0 6 (nI 0)) 0 9 (hindT (FA0 S T.length) T.length).2) p 0 _ = nI s from push_0.trans h28) ?_
  refine xw_aload_n (pc := 195) dX6_read_195 1 rfl ?_
  refine xm_getN (pc := 196) hM fd_X6_309 dX6_read_196 (show push (mset (mset S 0 6 (nI 0)) 0 9 (hindT (FA0 S T.length) T.length).2) p 0 _ = nI k from push_0.trans h31) ?_
  refine xw_aload_n (pc := 199) dX6_read_199 1 rfl ?_
  refine xm_getN (pc := 200) hM fd_X6_303 dX6_read_200 (show push (mset (mset S 0 6 (nI 0)) 0 9 (hindT (FA0 S T.length) T.length).2) p 0 _ = nI f from push_0.trans h29) ?_
  refine xw_aload_n (pc := 203) dX6_read_203 1 rfl ?_
  refine xm_getN (pc := 204) hM fd_X6_306 dX6_read_204 (show push (mset (mset S 0 6 (nI 0)) 0 9 (hindT (FA0 S T.length) T.length).2) p 0 _ = nI l from push_0.trans h30) ?_
  refine xw_callV (pc := 207) (xr_V (as := [_, _, _, _, _, _]) ok_X6_put rfl (by decide) q2437 q2439 qs59 (by rw [xtag_with, hM.1]; rfl) (by rw [xtag_with, hM.1]; rfl) dX6_read_207 rfl rfl (Nat.le_of_ble_eq_true rfl)) (SP_X6_put (S := push (mset (mset S 0 6 (nI 0)) 0 9 (hindT (FA0 S T.length) T.length).2) p) hM rr (hindD_rr hr hh) (by rw [push_1, e1, e1]; exact h1) (effV e) (nI q) (nI s) (nI k) (nI f) (nI l)) ?_
  refine xw_istore_n (l' := [(2, _), (1, _), (0, _)]) (pc := 210) dX6_read_210 rfl (by decide) rfl ?_
  refine xw_aload_n (pc := 211) dX6_read_211 2 rfl ?_
  refine xw_iload_n (pc := 212) dX6_read_212 0 rfl ?_
  refine xw_callU (pc := 213) (xr_V (as := [_]) ok_X6_putTests rfl (by decide) q2476 q2478 qs66 (by rw [xtag_with, hM.1]; rfl) (by rw [xtag_with, hM.1]; rfl) dX6_read_213 rfl rfl (Nat.le_of_ble_eq_true rfl)) (SP_X6_putTests (S := putR (push (mset (mset S 0 6 (nI 0)) 0 9 (hindT (FA0 S T.length) T.length).2) p) rr (effV e) (nI q) (nI s) (nI k) (nI f) (nI l)) hM rr 0 T.length (hindD_rr hr hh) (by have := hindT_c (FA := FA0 S T.length) (c := T.length) (by omega); omega) (putR_7 (hindD_rr hr hh)) (by rw [putR_0, push_0]; exact h5)) ?_
  refine xw_iload_n (pc := 216) dX6_read_216 0 rfl ?_
  refine xw_iret (pc := 217) .int dX6_read_217 rfl ?_ 
  exact ⟨rfl, rfl⟩
