/-! JDK 7: StringBuilder: room, inflating -/
set_option maxRecDepth 100000
theorem nI_subLe {a b : Nat} (h : a ≤ b) (hb : b < 2 ^ 31) : nI a - nI b ≤ 0 := by
  have h1 : (nI a).toInt = a := nI_toInt (by omega)
  have h2 : (nI b).toInt = b := nI_toInt hb
  apply Int32.le_iff_toInt_le.mpr
  rw [Int32.toInt_sub, h1, h2]
  show Int.bmod ((a : Int) - b) 4294967296 ≤ 0
  rw [Int.bmod_def]
  split <;> omega
/-- k pairs of bytes written to a -/
def xUf (g : xG) (a : Nat) (ch : Nat → Nat) : Nat → xG
  | 0 => g
  | k + 1 => xsetI (xsetI (xUf g a ch k) a (2 * k) (bt (ch k))) a (2 * k + 1) (bt (ch k / 256))
section U7
variable {g : xG} {a b : Nat} {ch : Nat → Nat}
theorem xUf_tag (k : Nat) : xtag (xUf g a ch k) b = xtag g b := by
  induction k with
  | zero => rfl
  | succ k ih => show xtag (xsetI (xsetI _ a _ _) a _ _) b = _; rw [xtag_setI, xtag_setI, ih]
theorem xUf_own (k : Nat) : xown (xUf g a ch k) b = xown g b := by
  induction k with
  | zero => rfl
  | succ k ih => show xown (xsetI (xsetI _ a _ _) a _ _) b = _; rw [xown_setI, xown_setI, ih]
theorem xUf_len (k : Nat) : xlen (xUf g a ch k) b = xlen g b := by
  induction k with
  | zero => rfl
  | succ k ih => show xlen (xsetI (xsetI _ a _ _) a _ _) b = _; rw [xlen_setI, xlen_setI, ih]
theorem xUf_sz (k : Nat) : xsz (xUf g a ch k) = xsz g := by
  induction k with
  | zero => rfl
  | succ k ih => show xsz (xsetI (xsetI _ a _ _) a _ _) = _; rw [xsz_setI, xsz_setI, ih]
theorem xUf_c (hb : b ≠ a) (k : Nat) : xc (xUf g a ch k) b = xc g b := by
  induction k with
  | zero => rfl
  | succ k ih => show xc (xsetI (xsetI _ a _ _) a _ _) b = _; rw [xc_setI hb, xc_setI hb, ih]
theorem xUf_fr {O : Nat → Prop} {g0 : xG} {N : Nat} (h : xFr O N g0 g) (ho : xsz g0 ≤ a ∨ O (xown g a)) (k : Nat) : xFr O N g0 (xUf g a ch k) := by
  induction k with
  | zero => exact h
  | succ k ih => exact (ih.si (by rw [xUf_own]; exact ho)).si (by rw [xown_setI, xUf_own]; exact ho)
theorem xUf_i (ha : xtag g a ≠ 0) (k : Nat) : ∀ j, j < k → xi (xUf g a ch k) a (2 * j) = bt (ch j) ∧ xi (xUf g a ch k) a (2 * j + 1) = bt (ch j / 256) := by
  induction k with
  | zero => intro j hj; omega
  | succ k ih =>
    intro j hj
    have ha' : xtag (xUf g a ch k) a ≠ 0 := by rw [xUf_tag]; exact ha
    have ha2 : xtag (xsetI (xUf g a ch k) a (2 * k) (bt (ch k))) a ≠ 0 := by rw [xtag_setI]; exact ha'
    show xi (xsetI (xsetI (xUf g a ch k) a (2 * k) (bt (ch k))) a (2 * k + 1) (bt (ch k / 256))) a (2 * j) = _ ∧ xi (xsetI (xsetI (xUf g a ch k) a (2 * k) (bt (ch k))) a (2 * k + 1) (bt (ch k / 256))) a (2 * j + 1) = _
    by_cases h : j = k
    · subst h
      exact ⟨(xi_setIK (by omega)).trans (xi_setIS ha'), xi_setIS ha2⟩
    · obtain ⟨e1, e2⟩ := ih j (by omega)
      exact ⟨(xi_setIK (by omega)).trans ((xi_setIK (by omega)).trans e1), (xi_setIK (by omega)).trans ((xi_setIK (by omega)).trans e2)⟩
end U7
theorem or_pos {a b c : Nat} (ha : a < 2 ^ 31) (hb : b < 2 ^ 31) (hc : c < 2 ^ 31) : (a ||| b ||| c) < 2 ^ 31 := Nat.or_lt_two_pow (Nat.or_lt_two_pow ha hb) hc

theorem SP_J10_newBytesLength {d : Nat} {g : xG} {k : Nat} (hk : k < 10000) : XM M_J10_newBytesLength d [.int (nI k)] g (xOne (some (.int (nI (k * 2)))) g) := by
  refine xm_of (by decide +kernel) (Nat.le_of_ble_eq_true rfl) ?_
  show XW _ _ 0 [(0, _)] [] _ _
  refine xw_iload_n (pc := 0) dJ10_newBytesLength_0 0 rfl ?_
  refine xw_if_ge (pc := 1) 12 dJ10_newBytesLength_1 rfl (fun hb1 => ?_) (fun hb1 => ?_)
  rotate_left
  · exfalso
    replace hb1 : ¬ (0 ≤ k) := mt (nI_leI (a := 0) (b := k) (by omega) (by omega)).mpr hb1
    omega
  replace hb1 : 0 ≤ k := (nI_leI (a := 0) (b := k) (by omega) (by omega)).mp hb1
  refine xw_iload_n (pc := 12) dJ10_newBytesLength_12 0 rfl ?_
  refine xw_ldc (v := nI 1073741823) (pc := 13) dJ10_newBytesLength_13 q237 ?_
  refine xw_icmp_lt (pc := 15) 55 dJ10_newBytesLength_15 rfl (fun hb15 => ?_) (fun hb15 => ?_)
  rotate_left
  · exfalso
    replace hb15 : ¬ (k < 1073741823) := mt (nI_ltI (a := k) (b := 1073741823) (by omega) (by omega)).mpr hb15
    omega
  replace hb15 : k < 1073741823 := (nI_ltI (a := k) (b := 1073741823) (by omega) (by omega)).mp hb15
  refine xw_iload_n (pc := 55) dJ10_newBytesLength_55 0 rfl ?_
  refine xw_iconst (v := nI 1) (pc := 56) dJ10_newBytesLength_56 rfl ?_
  refine xn_ishl (c := (k * 2)) (pc := 57) dJ10_newBytesLength_57 (by decide) (by first | omega | (simp; done) | (simp; omega)) ?_
  refine xw_iret (pc := 58) .int dJ10_newBytesLength_58 rfl ?_ 
  exact ⟨rfl, rfl⟩

theorem SP_J10_newBytesFor {d : Nat} {g : xG} {k o : Nat} (hk : k < 10000) (ho : o ≠ 0) : XM M_J10_newBytesFor (d + 1) [.int (nI k)] g (xOne (some (.ref (xsz g))) (xNew g (xBlank 103 o (k * 2)) (k * 2))) := by
  refine xm_of (by decide +kernel) (Nat.le_of_ble_eq_true rfl) ?_
  show XW _ _ 0 [(0, _)] [] _ _
  refine xw_iload_n (pc := 0) dJ10_newBytesFor_0 0 rfl ?_
  refine xw_callV (pc := 1) (xr_S (as := [_]) ok_J10_newBytesLength rfl (by decide) q234 q235 dJ10_newBytesFor_1 rfl rfl (Nat.le_of_ble_eq_true rfl)) (SP_J10_newBytesLength hk) ?_
  refine xw_newa_byte (n := (k * 2)) (pc := 4) o dJ10_newBytesFor_4 q252 (by first | decide | assumption | omega) rfl (by omega) ?_
  refine xw_at (a := (xsz g)) (by rfl) ?_
  refine xw_aret (pc := 6) (.array (.byte)) dJ10_newBytesFor_6 rfl ?_
  exact ⟨rfl, rfl⟩

theorem SP_J14_checkFromIndexSizeN {d : Nat} {g : xG} {a k L : Nat} (h : a + k ≤ L) (hL : L < 2 ^ 31) : XM M_J14_checkFromIndexSize d [.int (nI a), .int (nI k), .int (nI L), .null] g (xOne (some (.int (nI a))) g) := by
  have hor := or_pos hL (show a < 2 ^ 31 by omega) (show k < 2 ^ 31 by omega)
  generalize hz : L ||| a ||| k = z at hor
  refine xm_of (by decide +kernel) (Nat.le_of_ble_eq_true rfl) ?_
  show XW _ _ 0 [(0, _), (1, _), (2, _), (3, _)] [] _ _
  refine xw_iload_n (pc := 0) dJ14_checkFromIndexSize_0 2 rfl ?_
  refine xw_iload_n (pc := 1) dJ14_checkFromIndexSize_1 0 rfl ?_
  refine xw_ior (pc := 2) dJ14_checkFromIndexSize_2 ?_
  refine xw_iload_n (pc := 3) dJ14_checkFromIndexSize_3 1 rfl ?_
  refine xw_ior (pc := 4) dJ14_checkFromIndexSize_4 ?_
  rw [nI_or, nI_or, hz]
  refine xw_if_lt (pc := 5) 15 dJ14_checkFromIndexSize_5 rfl (fun hb5 => ?_) (fun hb5 => ?_)
  · exfalso
    replace hb5 : z < 0 := (nI_ltI (a := z) (b := 0) (by omega) (by omega)).mp hb5
    omega
  replace hb5 : ¬ (z < 0) := mt (nI_ltI (a := z) (b := 0) (by omega) (by omega)).mpr hb5
  refine xw_iload_n (pc := 8) dJ14_checkFromIndexSize_8 1 rfl ?_
  refine xw_iload_n (pc := 9) dJ14_checkFromIndexSize_9 2 rfl ?_
  refine xw_iload_n (pc := 10) dJ14_checkFromIndexSize_10 0 rfl ?_
  refine xn_isub (pc := 11) dJ14_checkFromIndexSize_11 (by omega) ?_
  refine xw_icmp_le (pc := 12) 23 dJ14_checkFromIndexSize_12 rfl (fun hb12 => ?_) (fun hb12 => ?_)
  rotate_left
  · exfalso
    replace hb12 : ¬ (k ≤ (L - a)) := mt (nI_leI (a := k) (b := (L - a)) (by omega) (by omega)).mpr hb12
    omega
  replace hb12 : k ≤ (L - a) := (nI_leI (a := k) (b := (L - a)) (by omega) (by omega)).mp hb12
  refine xw_iload_n (pc := 23) dJ14_checkFromIndexSize_23 0 rfl ?_
  refine xw_iret (pc := 24) .int dJ14_checkFromIndexSize_24 rfl ?_ 
  exact ⟨rfl, rfl⟩

theorem SP_J14_checkFromIndexSizeR {d : Nat} {g : xG} {a k L t : Nat} (h : a + k ≤ L) (hL : L < 2 ^ 31) : XM M_J14_checkFromIndexSize d [.int (nI a), .int (nI k), .int (nI L), .ref t] g (xOne (some (.int (nI a))) g) := by
  have hor := or_pos hL (show a < 2 ^ 31 by omega) (show k < 2 ^ 31 by omega)
  generalize hz : L ||| a ||| k = z at hor
  refine xm_of (by decide +kernel) (Nat.le_of_ble_eq_true rfl) ?_
  show XW _ _ 0 [(0, _), (1, _), (2, _), (3, _)] [] _ _
  refine xw_iload_n (pc := 0) dJ14_checkFromIndexSize_0 2 rfl ?_
  refine xw_iload_n (pc := 1) dJ14_checkFromIndexSize_1 0 rfl ?_
  refine xw_ior (pc := 2) dJ14_checkFromIndexSize_2 ?_
  refine xw_iload_n (pc := 3) dJ14_checkFromIndexSize_3 1 rfl ?_
  refine xw_ior (pc := 4) dJ14_checkFromIndexSize_4 ?_
  rw [nI_or, nI_or, hz]
  refine xw_if_lt (pc := 5) 15 dJ14_checkFromIndexSize_5 rfl (fun hb5 => ?_) (fun hb5 => ?_)
  · exfalso
    replace hb5 : z < 0 := (nI_ltI (a := z) (b := 0) (by omega) (by omega)).mp hb5
    omega
  replace hb5 : ¬ (z < 0) := mt (nI_ltI (a := z) (b := 0) (by omega) (by omega)).mpr hb5
  refine xw_iload_n (pc := 8) dJ14_checkFromIndexSize_8 1 rfl ?_
  refine xw_iload_n (pc := 9) dJ14_checkFromIndexSize_9 2 rfl ?_
  refine xw_iload_n (pc := 10) dJ14_checkFromIndexSize_10 0 rfl ?_
  refine xn_isub (pc := 11) dJ14_checkFromIndexSize_11 (by omega) ?_
  refine xw_icmp_le (pc := 12) 23 dJ14_checkFromIndexSize_12 rfl (fun hb12 => ?_) (fun hb12 => ?_)
  rotate_left
  · exfalso
    replace hb12 : ¬ (k ≤ (L - a)) := mt (nI_leI (a := k) (b := (L - a)) (by omega) (by omega)).mpr hb12
    omega
  replace hb12 : k ≤ (L - a) := (nI_leI (a := k) (b := (L - a)) (by omega) (by omega)).mp hb12
  refine xw_iload_n (pc := 23) dJ14_checkFromIndexSize_23 0 rfl ?_
  refine xw_iret (pc := 24) .int dJ14_checkFromIndexSize_24 rfl ?_ 
  exact ⟨rfl, rfl⟩

theorem SP_J9_checkBoundsOffCount {d : Nat} {g : xG} {a k L : Nat} (h : a + k ≤ L) (hL : L < 2 ^ 31) : XM M_J9_checkBoundsOffCount (d + 1) [.int (nI a), .int (nI k), .int (nI L)] g (xOne (some (.int (nI a))) g) := by
  refine xm_of (by decide +kernel) (Nat.le_of_ble_eq_true rfl) ?_
  show XW _ _ 0 [(0, _), (1, _), (2, _)] [] _ _
  refine xw_iload_n (pc := 0) dJ9_checkBoundsOffCount_0 0 rfl ?_
  refine xw_iload_n (pc := 1) dJ9_checkBoundsOffCount_1 1 rfl ?_
  refine xw_iload_n (pc := 2) dJ9_checkBoundsOffCount_2 2 rfl ?_
  refine xw_getsQ (pc := 3) (rs0 := .inl (some (.int (nI a)))) (g0 := g) dJ9_checkBoundsOffCount_3 (List.mem_of_getElem? (i := 2) rfl) q317 ?_ (fun t => ?_) ⟨rfl, rfl⟩
  ·
    refine xw_callV (pc := 6) (xr_S (as := [_, _, _, _]) ok_J14_checkFromIndexSize rfl (by decide) q365 q366 dJ9_checkBoundsOffCount_6 rfl rfl (Nat.le_of_ble_eq_true rfl)) (SP_J14_checkFromIndexSizeN h hL) ?_
    refine xw_iret (pc := 9) .int dJ9_checkBoundsOffCount_9 rfl ?_ 
    exact ⟨rfl, rfl⟩
  ·
    refine xw_callV (pc := 6) (xr_S (as := [_, _, _, _]) ok_J14_checkFromIndexSize rfl (by decide) q365 q366 dJ9_checkBoundsOffCount_6 rfl rfl (Nat.le_of_ble_eq_true rfl)) (SP_J14_checkFromIndexSizeR h hL) ?_
    refine xw_iret (pc := 9) .int dJ9_checkBoundsOffCount_9 rfl ?_ 
    exact ⟨rfl, rfl⟩
theorem SP_J10_checkBoundsOffCount {d : Nat} {g : xG} {a k v : Nat} (s6 : xtag g v = 103) (hl : xlen g v < 2 ^ 30) (h : a + k ≤ xlen g v / 2) : XM M_J10_checkBoundsOffCount (d + 2) [.int (nI a), .int (nI k), .ref v] g (xOne none g) := by
  refine xm_of (by decide +kernel) (Nat.le_of_ble_eq_true rfl) ?_
  show XW _ _ 0 [(0, _), (1, _), (2, _)] [] _ _
  refine xw_iload_n (pc := 0) dJ10_checkBoundsOffCount_0 0 rfl ?_
  refine xw_iload_n (pc := 1) dJ10_checkBoundsOffCount_1 1 rfl ?_
  refine xw_aload_n (pc := 2) dJ10_checkBoundsOffCount_2 2 rfl ?_
  refine xw_callV (pc := 3) (xr_S (as := [_]) ok_J10_length rfl (by decide) q311 q312 dJ10_checkBoundsOffCount_3 rfl rfl (Nat.le_of_ble_eq_true rfl)) (SP_J10_length s6 hl) ?_
  refine xw_callV (pc := 6) (xr_S (as := [_, _, _]) ok_J9_checkBoundsOffCount rfl (by decide) q362 q363 dJ10_checkBoundsOffCount_6 rfl rfl (Nat.le_of_ble_eq_true rfl)) (SP_J9_checkBoundsOffCount h (by omega)) ?_
  refine xw_pop (pc := 9) dJ10_checkBoundsOffCount_9 rfl ?_
  refine xw_vret (pc := 10) dJ10_checkBoundsOffCount_10 rfl ?_
  exact ⟨rfl, rfl⟩

theorem lp_J10_inflate {d : Nat} {g : xG} {v w k : Nat} {ch : Nat → Nat} (s6 : xtag g v = 103) (w6 : xtag g w = 103) (wo : xown g w ≠ 0) (hl : xlen g w < 2 ^ 30) (hvw : v ≠ w) (h2 : 2 * k ≤ xlen g w) (h1 : k ≤ xlen g v) (hch : ∀ j, j < k → ch j < 256 ∧ xi g v j = bt (ch j)) : ∀ (z j : Nat), k - j < z → j ≤ k → XW M_J10_inflate (d + 3) 10 [(5, .int (nI j)), (0, .ref v), (1, .int (nI j)), (2, .ref w), (3, .int (nI j)), (4, .int (nI k))] [] (xUf g w ch j) (xOne none (xUf g w ch k)) := by
  intro z
  induction z with
  | zero => intro j h; omega
  | succ z ih =>
  intro j hj hk
  have t1 : xtag (xUf g w ch j) v = 103 := by rw [xUf_tag]; exact s6
  have t2 : xtag (xUf g w ch j) w = 103 := by rw [xUf_tag]; exact w6
  have t3 : xown (xUf g w ch j) w ≠ 0 := by rw [xUf_own]; exact wo
  have t4 : xlen (xUf g w ch j) w = xlen g w := xUf_len j
  have t5 : xlen (xUf g w ch j) v = xlen g v := xUf_len j
  have t6 : ∀ i, xi (xUf g w ch j) v i = xi g v i := fun i => congrArg (fun z : xCell => z.2.2.2.1 i) (xUf_c hvw j)
  refine xw_iload (pc := 10) dJ10_inflate_10 0 rfl ?_
  refine xw_iload (pc := 12) dJ10_inflate_12 5 rfl ?_
  refine xw_icmp_ge (pc := 14) 41 dJ10_inflate_14 rfl (fun hb14 => ?_) (fun hb14 => ?_)
  · replace hb14 : k ≤ j := (nI_leI (a := k) (b := j) (by omega) (by omega)).mp hb14
    refine xw_vret (pc := 41) dJ10_inflate_41 rfl ?_
    have e : j = k := by omega
    rw [e]
    exact ⟨rfl, rfl⟩
  · replace hb14 : ¬ (k ≤ j) := mt (nI_leI (a := k) (b := j) (by omega) (by omega)).mpr hb14
    have hjk : j < k := by omega
    refine xw_aload_n (pc := 17) dJ10_inflate_17 3 rfl ?_
    refine xw_iload_n (pc := 18) dJ10_inflate_18 4 rfl ?_
    refine xw_iinc (v := nI (j + 1)) (l' := [(3, _), (5, _), (0, _), (1, _), (2, _), (4, _)]) (pc := 19) dJ10_inflate_19 4 rfl (nI_add _ 1) (by decide) rfl ?_
    refine xw_aload_n (pc := 22) dJ10_inflate_22 2 rfl ?_
    refine xw_iload_n (pc := 23) dJ10_inflate_23 3 rfl ?_
    refine xw_iinc (v := nI (j + 1)) (l' := [(1, _), (3, _), (5, _), (0, _), (2, _), (4, _)]) (pc := 24) dJ10_inflate_24 3 rfl (nI_add _ 1) (by decide) rfl ?_
    refine xw_bald (k := j) (pc := 27) dJ10_inflate_27 (by simp [-List.getD_eq_getElem?_getD, xE_setI, xsz_setI, xsl_setI, xtag_setI, xown_setI, xlen_setI, xE_setR, xsz_setR, xsl_setR, xtag_setR, xown_setR, xlen_setR, xE_setW, xsz_setW, xsl_setW, xtag_setW, xown_setW, xlen_setW, xi_setR, xi_setW, xr_setI, xr_setW, xww_setI, xww_setR, xi_setI, xr_setR, xww_setW, xE_new, xsz_new, xsl_new, t1, t2]) rfl (by rw [t5]; omega) ?_
    rw [t6, (hch j hjk).2]
    refine xw_sipush (v := nI 255) (pc := 28) dJ10_inflate_28 (by decide +kernel) ?_
    refine xw_iand (pc := 31) dJ10_inflate_31 ?_
    rw [bt_and, Nat.mod_eq_of_lt (hch j hjk).1]
    refine xw_callU (pc := 32) (xr_S (as := [_, _, _]) ok_J10_putChar rfl (by decide) q322 q323 dJ10_inflate_32 rfl rfl (Nat.le_of_ble_eq_true rfl)) (SP_J10_putChar t2 (by rw [t4]; omega) (by rw [t4]; exact hl) (by have := (hch j hjk).1; omega) t3) ?_
    refine xw_iinc (v := nI (j + 1)) (l' := [(5, _), (1, _), (3, _), (0, _), (2, _), (4, _)]) (pc := 35) dJ10_inflate_35 2 rfl (nI_add _ 1) (by decide) rfl ?_
    refine xw_goto (pc := 38) 10 dJ10_inflate_38 rfl ?_
    refine xw_pick (pc := 10) (l' := [(5, _), (0, _), (1, _), (2, _), (3, _), (4, _)]) [0, 3, 1, 4, 2, 5] rfl ?_
    exact ih (j + 1) (by omega) (by omega)
theorem SP_J10_inflate {d : Nat} {g : xG} {v w k : Nat} {ch : Nat → Nat} (s6 : xtag g v = 103) (w6 : xtag g w = 103) (wo : xown g w ≠ 0) (hl : xlen g w < 2 ^ 30) (hvw : v ≠ w) (h2 : 2 * k ≤ xlen g w) (h1 : k ≤ xlen g v) (hch : ∀ j, j < k → ch j < 256 ∧ xi g v j = bt (ch j)) : XM M_J10_inflate (d + 3) [.ref v, .int (nI 0), .ref w, .int (nI 0), .int (nI k)] g (xOne none (xUf g w ch k)) := by
  refine xm_of (by decide +kernel) (Nat.le_of_ble_eq_true rfl) ?_
  show XW _ _ 0 [(0, _), (1, _), (2, _), (3, _), (4, _)] [] _ _
  refine xw_iload_n (pc := 0) dJ10_inflate_0 3 rfl ?_
  refine xw_iload (pc := 1) dJ10_inflate_1 4 rfl ?_
  refine xw_aload_n (pc := 3) dJ10_inflate_3 2 rfl ?_
  refine xw_callU (pc := 4) (xr_S (as := [_, _, _]) ok_J10_checkBoundsOffCount rfl (by decide) q359 q360 dJ10_inflate_4 rfl rfl (Nat.le_of_ble_eq_true rfl)) (SP_J10_checkBoundsOffCount w6 hl (by omega)) ?_
  refine xw_iconst (v := nI 0) (pc := 7) dJ10_inflate_7 rfl ?_
  refine xw_istore (l' := [(5, _), (0, _), (1, _), (2, _), (3, _), (4, _)]) (pc := 8) dJ10_inflate_8 (by decide) rfl ?_
  exact lp_J10_inflate s6 w6 wo hl hvw h2 h1 hch (k + 1) 0 (by omega) (by omega)

theorem SP_J15_inflate {d : Nat} {g : xG} {v w k : Nat} {ch : Nat → Nat} (s6 : xtag g v = 103) (w6 : xtag g w = 103) (wo : xown g w ≠ 0) (hl : xlen g w < 2 ^ 30) (hvw : v ≠ w) (h2 : 2 * k ≤ xlen g w) (h1 : k ≤ xlen g v) (hch : ∀ j, j < k → ch j < 256 ∧ xi g v j = bt (ch j)) : XM M_J15_inflate (d + 4) [.ref v, .int (nI 0), .ref w, .int (nI 0), .int (nI k)] g (xOne none (xUf g w ch k)) := by
  refine xm_of (by decide +kernel) (Nat.le_of_ble_eq_true rfl) ?_
  show XW _ _ 0 [(0, _), (1, _), (2, _), (3, _), (4, _)] [] _ _
  refine xw_aload_n (pc := 0) dJ15_inflate_0 0 rfl ?_
  refine xw_iload_n (pc := 1) dJ15_inflate_1 1 rfl ?_
  refine xw_aload_n (pc := 2) dJ15_inflate_2 2 rfl ?_
  refine xw_iload_n (pc := 3) dJ15_inflate_3 3 rfl ?_
  refine xw_iload (pc := 4) dJ15_inflate_4 4 rfl ?_
  refine xw_callU (pc := 6) (xr_S (as := [_, _, _, _, _]) ok_J10_inflate rfl (by decide) q356 q357 dJ15_inflate_6 rfl rfl (Nat.le_of_ble_eq_true rfl)) (SP_J10_inflate s6 w6 wo hl hvw h2 h1 hch) ?_
  refine xw_vret (pc := 9) dJ15_inflate_9 rfl ?_
  exact ⟨rfl, rfl⟩

theorem SP_J13_copyOf {d : Nat} {g : xG} {v o m : Nat} (s6 : xtag g v = 103) (ho : o ≠ 0) (hm : xlen g v < m) (hm2 : m < 10000) : XM M_J13_copyOf (d + 1) [.ref v, .int (nI m)] g (xVal (.ref (xsz g)) (fun g' => xtag g' (xsz g) = 103 ∧ xown g' (xsz g) = o ∧ xlen g' (xsz g) = m ∧ (∀ j, j < xlen g v → xi g' (xsz g) j = xi g v j) ∧ xFr oNo (m + 1) g g')) := by
  have hlt : v < xsz g := xlt (by rw [s6]; decide)
  have u1 : xtag (xNew g (xBlank 103 o m) m) v = 103 := by rw [xtag_new hlt]; exact s6
  have u2 : xlen (xNew g (xBlank 103 o m) m) v = xlen g v := xlen_new hlt
  have u3 : xtag (xNew g (xBlank 103 o m) m) (xsz g) = 103 := xtag_newS rfl
  have u4 : xown (xNew g (xBlank 103 o m) m) (xsz g) = o := xown_newS rfl
  have u5 : xlen (xNew g (xBlank 103 o m) m) (xsz g) = m := xlen_newS rfl
  refine xm_of (by decide +kernel) (Nat.le_of_ble_eq_true rfl) ?_
  show XW _ _ 0 [(0, _), (1, _)] [] _ _
  refine xw_iload_n (pc := 0) dJ13_copyOf_0 1 rfl ?_
  refine xw_aload_n (pc := 1) dJ13_copyOf_1 0 rfl ?_
  refine xw_alen (q := 2) (pc := 2) dJ13_copyOf_2 (by simp (disch := (first | omega | (simp only [xE_setI, xsz_setI, xsl_setI, xtag_setI, xown_setI, xlen_setI, xE_setR, xsz_setR, xsl_setR, xtag_setR, xown_setR, xlen_setR, xE_setW, xsz_setW, xsl_setW, xtag_setW, xown_setW, xlen_setW, xi_setR, xi_setW, xr_setI, xr_setW, xww_setI, xww_setR, xi_setI, xr_setR, xww_setW, xE_new, xsz_new, xsl_new]; omega))) [-List.getD_eq_getElem?_getD, xE_setI, xsz_setI, xsl_setI, xtag_setI, xown_setI, xlen_setI, xE_setR, xsz_setR, xsl_setR, xtag_setR, xown_setR, xlen_setR, xE_setW, xsz_setW, xsl_setW, xtag_setW, xown_setW, xlen_setW, xi_setR, xi_setW, xr_setI, xr_setW, xww_setI, xww_setR, xi_setI, xr_setR, xww_setW, xE_new, xsz_new, xsl_new, xtag_new, xown_new, xlen_new, xi_new, xr_new, xww_new, xtag_newS, xown_newS, xlen_newS, xi_newS, xr_newS, xww_newS, u1, u2, u3, u4, u5, s6]) (by first | decide | omega) ?_
  rw [show xlen _ v = (xlen g v) from by simp (disch := (first | omega | (simp only [xE_setI, xsz_setI, xsl_setI, xtag_setI, xown_setI, xlen_setI, xE_setR, xsz_setR, xsl_setR, xtag_setR, xown_setR, xlen_setR, xE_setW, xsz_setW, xsl_setW, xtag_setW, xown_setW, xlen_setW, xi_setR, xi_setW, xr_setI, xr_setW, xww_setI, xww_setR, xi_setI, xr_setR, xww_setW, xE_new, xsz_new, xsl_new]; omega))) [-List.getD_eq_getElem?_getD, xE_setI, xsz_setI, xsl_setI, xtag_setI, xown_setI, xlen_setI, xE_setR, xsz_setR, xsl_setR, xtag_setR, xown_setR, xlen_setR, xE_setW, xsz_setW, xsl_setW, xtag_setW, xown_setW, xlen_setW, xi_setR, xi_setW, xr_setI, xr_setW, xww_setI, xww_setR, xi_setI, xr_setR, xww_setW, xE_new, xsz_new, xsl_new, xtag_new, xown_new, xlen_new, xi_new, xr_new, xww_new, xtag_newS, xown_newS, xlen_newS, xi_newS, xr_newS, xww_newS, u1, u2, u3, u4, u5, s6]]
  refine xw_icmp_ne (pc := 3) 14 dJ13_copyOf_3 rfl (fun hb3 => ?_) (fun hb3 => ?_)
  rotate_left
  · exfalso
    replace hb3 : m = (xlen g v) := (nI_eq (a := m) (b := (xlen g v)) (by omega) (by omega)).mp hb3
    omega
  replace hb3 : ¬ (m = (xlen g v)) := mt (nI_eq (a := m) (b := (xlen g v)) (by omega) (by omega)).mpr hb3
  refine xw_iload_n (pc := 14) dJ13_copyOf_14 1 rfl ?_
  refine xw_newa_byte (n := m) (pc := 15) o dJ13_copyOf_15 q252 (by first | decide | assumption | omega) rfl (by omega) ?_
  refine xw_at (a := (xsz g)) (by rfl) ?_
  refine xw_astore_n (l' := [(2, _), (0, _), (1, _)]) (pc := 17) dJ13_copyOf_17 rfl (by decide) rfl ?_
  refine xw_aload_n (pc := 18) dJ13_copyOf_18 1 rfl ?_
  refine xw_iconst (v := nI 0) (pc := 19) dJ13_copyOf_19 rfl ?_
  refine xw_aload_n (pc := 20) dJ13_copyOf_20 0 rfl ?_
  refine xw_iconst (v := nI 0) (pc := 21) dJ13_copyOf_21 rfl ?_
  refine xw_aload_n (pc := 22) dJ13_copyOf_22 1 rfl ?_
  refine xw_alen (q := 2) (pc := 23) dJ13_copyOf_23 (by simp (disch := (first | omega | (simp only [xE_setI, xsz_setI, xsl_setI, xtag_setI, xown_setI, xlen_setI, xE_setR, xsz_setR, xsl_setR, xtag_setR, xown_setR, xlen_setR, xE_setW, xsz_setW, xsl_setW, xtag_setW, xown_setW, xlen_setW, xi_setR, xi_setW, xr_setI, xr_setW, xww_setI, xww_setR, xi_setI, xr_setR, xww_setW, xE_new, xsz_new, xsl_new]; omega))) [-List.getD_eq_getElem?_getD, xE_setI, xsz_setI, xsl_setI, xtag_setI, xown_setI, xlen_setI, xE_setR, xsz_setR, xsl_setR, xtag_setR, xown_setR, xlen_setR, xE_setW, xsz_setW, xsl_setW, xtag_setW, xown_setW, xlen_setW, xi_setR, xi_setW, xr_setI, xr_setW, xww_setI, xww_setR, xi_setI, xr_setR, xww_setW, xE_new, xsz_new, xsl_new, xtag_new, xown_new, xlen_new, xi_new, xr_new, xww_new, xtag_newS, xown_newS, xlen_newS, xi_newS, xr_newS, xww_newS, u1, u2, u3, u4, u5, s6]) (by first | decide | omega) ?_
  rw [show xlen _ v = (xlen g v) from by simp (disch := (first | omega | (simp only [xE_setI, xsz_setI, xsl_setI, xtag_setI, xown_setI, xlen_setI, xE_setR, xsz_setR, xsl_setR, xtag_setR, xown_setR, xlen_setR, xE_setW, xsz_setW, xsl_setW, xtag_setW, xown_setW, xlen_setW, xi_setR, xi_setW, xr_setI, xr_setW, xww_setI, xww_setR, xi_setI, xr_setR, xww_setW, xE_new, xsz_new, xsl_new]; omega))) [-List.getD_eq_getElem?_getD, xE_setI, xsz_setI, xsl_setI, xtag_setI, xown_setI, xlen_setI, xE_setR, xsz_setR, xsl_setR, xtag_setR, xown_setR, xlen_setR, xE_setW, xsz_setW, xsl_setW, xtag_setW, xown_setW, xlen_setW, xi_setR, xi_setW, xr_setI, xr_setW, xww_setI, xww_setR, xi_setI, xr_setR, xww_setW, xE_new, xsz_new, xsl_new, xtag_new, xown_new, xlen_new, xi_new, xr_new, xww_new, xtag_newS, xown_newS, xlen_newS, xi_newS, xr_newS, xww_newS, u1, u2, u3, u4, u5, s6]]
  refine xw_iload_n (pc := 24) dJ13_copyOf_24 2 rfl ?_
  refine xn_mmin (pc := 25) dJ13_copyOf_25 q294 q106 (Nat.le_of_ble_eq_true rfl) (by omega) (by omega) ?_
  refine xw_copyI (q := 2) (n := min (xlen g v) m) (sp := 0) (dp := 0) (pc := 28) dJ13_copyOf_28 q297 (by decide) (by exact u1) (by exact u3) (by rw [u4]; exact ho) (by rw [u2]; omega) (by rw [u5]; omega) (by exact Nat.le_of_ble_eq_true rfl) ?_
  refine xw_aload_n (pc := 31) dJ13_copyOf_31 0 rfl ?_
  refine xw_aret (pc := 32) (.array (.byte)) dJ13_copyOf_32 rfl ?_
  refine ⟨rfl, (xtag_put (by rfl)).trans u3, (xown_put (by rfl)).trans u4, (xlen_put (by rfl)).trans u5, fun j hj => ?_, xFr.sub (n := 0 + (m + 1)) (O := oNo) (xFr.put (xFr.nw xFr.rf) rfl rfl rfl (Or.inl (Nat.le_refl _))) (fun _ h => h) (by omega)⟩
  have e9 : min (xlen g v) m = xlen g v := Nat.min_eq_left (by omega)
  unfold xi
  rw [xc_put (show xsz g < xsz (xNew g (xBlank 103 o m) m) from Nat.lt_succ_self _)]
  show va_cpy _ _ 0 0 (min (xlen g v) m) j = _
  unfold va_cpy
  rw [if_pos ⟨Nat.zero_le _, by omega⟩, Nat.zero_add, Nat.sub_zero]
  exact xi_new hlt

