/-! JDK 6: bytes, chars, StringBuilder -/
set_option maxRecDepth 100000
section Q6
variable {M : xM} {d pc : Nat} {l : List (Nat × Value)} {rest : List Value} {g : xG} {Q : Option Value ⊕ Nat → xG → Prop}
/-- a static of which only the kind is known: the rest of the method answers the same -/
theorem xw_getsQ {ix : Nat} {C n ds : String} {rs0 : Option Value ⊕ Nat} {g0 : xG} (hd : decode M.2.1 pc = .ok (.getstatic ix, 3)) (hi : (C, n, ds) ∈ xsq) (hk : Cond.fieldLink M.1.cls ix C n ds ∈ lw_all) (k0 : XW M d (pc + 3) l (.null :: rest) g (fun rs g' => rs = rs0 ∧ g' = g0)) (k1 : ∀ t : Nat, XW M d (pc + 3) l (.ref t :: rest) g (fun rs g' => rs = rs0 ∧ g' = g0)) (hQ : Q rs0 g0) : XW M d pc l rest g Q := by
  obtain ⟨rs, g', ⟨rfl, rfl⟩, hm, hr⟩ := k0
  refine ⟨rs, g', hQ, hm, ?_⟩
  intro p L e R s m args below meth c z0 H locs ls S
  have S0 := S
  obtain ⟨C, h1, h2, h3, h4, h5, h6, hR, hS, hl⟩ := S
  have hK := C.2.2.2.2.2.2.2.2.2.2.1
  have hst := C.2.2.2.2.2.2.2.2.2.2.2
  rcases (hK.2.2.2.2.2.2.1 _ hi).1 with hZ | ⟨t, hZ⟩
  · exact va_gets C.1 C.2.1 (va_Z.kept hZ (fun a h1 _ => hst.2 a h1)) hS C.2.2.2.2.1 (C.2.2.2.2.2.1 _ hk) (fun _ h => h) hd (hr p L e R s m args below meth c z0 H locs ls S0)
  · obtain ⟨rs2, g2, ⟨rfl, rfl⟩, hm2, hr2⟩ := k1 t
    exact va_gets C.1 C.2.1 (va_Z.kept hZ (fun a h1 _ => hst.2 a h1)) hS C.2.2.2.2.1 (C.2.2.2.2.2.1 _ hk) (fun _ h => h) hd (hr2 p L e R s m args below meth c z0 H locs ls S0)
end Q6
/-- the byte of a char, as an int -/
def bt (c : Nat) : Int32 := (nI c).toInt8.toInt32
theorem bt_i {x : Int32} : (x.toInt8.toInt32).toInt8.toInt32 = x.toInt8.toInt32 := by rw [Int8.toInt8_toInt32]
theorem nI_ofNat (c : Nat) : nI c = Int32.ofNat c := rfl
theorem bt_mod (c : Nat) : bt (c % 256) = bt c := by
  unfold bt
  congr 1
  rw [nI_ofNat, nI_ofNat, Int32.toInt8_ofNat', Int32.toInt8_ofNat']
  apply Int8.toBitVec_inj.mp
  show BitVec.ofNat 8 (c % 256) = BitVec.ofNat 8 c
  apply BitVec.eq_of_toNat_eq
  simp
theorem bt_and0 : ∀ c : Fin 256, bt c.val &&& nI 255 = nI c.val := by decide +kernel
theorem bt_and (c : Nat) : bt c &&& nI 255 = nI (c % 256) := by
  rw [← bt_mod]
  exact bt_and0 ⟨c % 256, Nat.mod_lt _ (by decide)⟩
theorem nI_or (a c : Nat) : nI a ||| nI c = nI (a ||| c) := by
  apply Int32.toBitVec_inj.mp
  show BitVec.ofNat 32 a ||| BitVec.ofNat 32 c = BitVec.ofNat 32 (a ||| c)
  exact BitVec.ofNat_or.symm
theorem nI_i2c {c : Nat} (h : c < 65536) : ((nI c).toUInt32 % 65536).toInt32 = nI c := by
  have e : (nI c).toUInt32 = UInt32.ofNat c := rfl
  rw [e]
  have e2 : UInt32.ofNat c % 65536 = UInt32.ofNat c := by
    apply UInt32.toNat_inj.mp
    rw [UInt32.toNat_mod]
    have h3 : (UInt32.ofNat c).toNat = c := UInt32.toNat_ofNat_of_lt' (by show c < 4294967296; omega)
    rw [h3]
    exact Nat.mod_eq_of_lt h
  rw [e2]
  rfl
theorem nI_chr {c : Nat} (h : c < 65536) : narrow .char (.int (nI c)) = .int (nI c) := congrArg Value.int (nI_i2c h)
theorem nI_hilo {c : Nat} (h : c < 65536) : nI (c % 256) ||| nI (c / 256 % 256 * 256) = nI c := by
  rw [nI_or]
  congr 1
  have h1 : c / 256 % 256 = c / 256 := Nat.mod_eq_of_lt (by omega)
  rw [h1, Nat.or_comm]
  have h2 := Nat.two_pow_add_eq_or_of_lt (i := 8) (Nat.mod_lt c (show 0 < 2 ^ 8 by decide)) (c / 256)
  have e3 : (2 : Nat) ^ 8 = 256 := rfl
  rw [e3, Nat.mul_comm] at h2
  rw [← h2]
  omega
/-- a StringBuilder, but for its chars -/
def xB0 (g : xG) (o b v n : Nat) : Prop := xtag g b = 19 ∧ xown g b = o ∧ xr g b 0 = some v ∧ xi g b 3 = nI n ∧ xtag g v = 103 ∧ xown g v = o
/-- .. with bytes -/
def xBL (g : xG) (o b v n : Nat) (ch : Nat → Nat) : Prop := xB0 g o b v n ∧ xi g b 1 = nI 0 ∧ n ≤ xlen g v ∧ xlen g v ≤ 1000 ∧ ∀ j, j < n → ch j < 256 ∧ xi g v j = bt (ch j)
/-- .. with pairs of bytes -/
def xBU (g : xG) (o b v n : Nat) (ch : Nat → Nat) : Prop := xB0 g o b v n ∧ xi g b 1 = nI 1 ∧ 2 * n ≤ xlen g v ∧ xlen g v ≤ 2000 ∧ ∀ j, j < n → ch j < 65536 ∧ xi g v (2 * j) = bt (ch j) ∧ xi g v (2 * j + 1) = bt (ch j / 256)
section R6
variable {M M' : xM} {d pc : Nat} {l : List (Nat × Value)} {rest : List Value} {g : xG} {Q : Option Value ⊕ Nat → xG → Prop}
/-- super.m(..) -/
theorem xr_SU {n idx b : Nat} {as st0 : List Value} (hM : xMok M' n) (hh : M'.2.2.2.2 = []) (hloc : M'.2.2.1 ≤ 40) (hl : Cond.methodLink M.1.cls idx M'.1 ∈ lw_all) (hsm : Cond.sameMethod M'.1.cls M'.1.cls M'.1.name M'.1.desc ∈ lw_all) (hsu : Cond.superclass M.1.cls M'.1.cls ∈ lw_all) (hi : Cond.instanceMethod M'.1 ∈ lw_all) (hno : M'.1.name ≠ "<init>") (htb : xtag g b = 19)
    (hd : decode M.2.1 pc = .ok (.invokespecial idx, 3)) (hn : as.length = n) (hst : as.reverse ++ .ref b :: rest = st0) (hr : (rest.map fun v => v.category).sum ≤ 8) : xRun M M' d pc g st0 rest (.ref b :: as) := by
  intro p L e R s m args below meth c H locs cells slots ls mc ms Pc Qc XC free C hR hz hf hlo hc1 hc2 blind hP hMet
  subst hst
  have hts := C.2.2.2.2.2.1
  have hK := C.2.2.2.2.2.2.2.2.2.2.1
  obtain ⟨cell, k1, k2, k3⟩ := x_any hK hR (show xcls (xtag g b) = true by rw [htb]; rfl)
  have hat : ClassAt s (xnm (xtag g b)) ((xE g).1.1 18) := by rw [htb]; exact (hK.1 18 _ rfl).2
  obtain ⟨q1, q2, q3⟩ := x_back (mc := mc) (ms := ms) hM hh hloc hts hf hlo
  exact vx_runSU (C := xnm (xtag g b)) (b := b) (As := as) hat ⟨C.1, C.2.1, C.2.2.2.1, C.2.2.2.2.1, hts⟩ hMet ⟨q1, hts _ hl, hts _ hsm, hts _ hsu, hts _ hi, q3, q2, hno, fun sig h => by
      have h2 := hM.1.2.2
      rw [h] at h2
      exact (Option.some.inj h2).symm⟩ ⟨blind, ⟨cell, k1, k2, k3⟩, hP⟩ rfl hn hz rfl (x_cat hr m ls _) hd ⟨hc1, hc2⟩
end R6

theorem SP_J7_length {d : Nat} {g : xG} {o b v n : Nat} (hS : xB0 g o b v n) : XM M_J7_length d [.ref b] g (xOne (some (.int (nI n))) g) := by
  obtain ⟨s1, s2, s3, s4, s5, s6⟩ := hS
  refine xm_of (by decide +kernel) (Nat.le_of_ble_eq_true rfl) ?_
  show XW _ _ 0 [(0, _)] [] _ _
  refine xw_aload_n (pc := 0) dJ7_length_0 0 rfl ?_
  refine xw_getNat (k := n) (pc := 1) fd_J7_79 dJ7_length_1 (by first | assumption | (simp [-List.getD_eq_getElem?_getD, xE_setI, xsz_setI, xsl_setI, xtag_setI, xown_setI, xlen_setI, xE_setR, xsz_setR, xsl_setR, xtag_setR, xown_setR, xlen_setR, xE_setW, xsz_setW, xsl_setW, xtag_setW, xown_setW, xlen_setW, xi_setR, xi_setW, xr_setI, xr_setW, xww_setI, xww_setR, xi_setI, xr_setR, xww_setW, xE_new, xsz_new, xsl_new, s1, s2, s3, s4, s5, s6, xsub]; done) | (simp [-List.getD_eq_getElem?_getD, xE_setI, xsz_setI, xsl_setI, xtag_setI, xown_setI, xlen_setI, xE_setR, xsz_setR, xsl_setR, xtag_setR, xown_setR, xlen_setR, xE_setW, xsz_setW, xsl_setW, xtag_setW, xown_setW, xlen_setW, xi_setR, xi_setW, xr_setI, xr_setW, xww_setI, xww_setR, xi_setI, xr_setR, xww_setW, xE_new, xsz_new, xsl_new, s1, s2, s3, s4, s5, s6] <;> rfl)) (by simp [-List.getD_eq_getElem?_getD, xE_setI, xsz_setI, xsl_setI, xtag_setI, xown_setI, xlen_setI, xE_setR, xsz_setR, xsl_setR, xtag_setR, xown_setR, xlen_setR, xE_setW, xsz_setW, xsl_setW, xtag_setW, xown_setW, xlen_setW, xi_setR, xi_setW, xr_setI, xr_setW, xww_setI, xww_setR, xi_setI, xr_setR, xww_setW, xE_new, xsz_new, xsl_new, s1, s2, s3, s4, s5, s6]) ?_
  refine xw_iret (pc := 4) .int dJ7_length_4 rfl ?_ 
  exact ⟨rfl, rfl⟩

theorem SP_J8_length {d : Nat} {g : xG} {o b v n : Nat} (hS : xB0 g o b v n) : XM M_J8_length (d + 1) [.ref b] g (xOne (some (.int (nI n))) g) := by
  have hS0 := hS
  obtain ⟨s1, s2, s3, s4, s5, s6⟩ := hS
  refine xm_of (by decide +kernel) (Nat.le_of_ble_eq_true rfl) ?_
  show XW _ _ 0 [(0, _)] [] _ _
  refine xw_aload_n (pc := 0) dJ8_length_0 0 rfl ?_
  refine xw_callV (pc := 1) (xr_SU (as := []) ok_J7_length rfl (by decide) q423 q419 q251 q418 (by decide) (by exact s1) dJ8_length_1 rfl rfl (Nat.le_of_ble_eq_true rfl)) (SP_J7_length hS0) ?_
  refine xw_iret (pc := 4) .int dJ8_length_4 rfl ?_ 
  exact ⟨rfl, rfl⟩

theorem SP_J7_isLatin1_0 {d : Nat} {g : xG} {b : Nat} (s1 : xtag g b = 19) (s4 : xi g b 1 = nI 0) : XM M_J7_isLatin1 d [.ref b] g (xOne (some (.int (bI true))) g) := by
  refine xm_of (by decide +kernel) (Nat.le_of_ble_eq_true rfl) ?_
  show XW _ _ 0 [(0, _)] [] _ _
  refine xw_gets (i := 7) (pc := 0) dJ7_isLatin1_0 rfl q229 ?_
  refine xw_if_eq (pc := 3) 17 dJ7_isLatin1_3 rfl (fun hb => absurd hb (by decide)) (fun _ => ?_)
  refine xw_aload_n (pc := 6) dJ7_isLatin1_6 0 rfl ?_
  refine xw_getNat (k := 0) (pc := 7) fd_J7_22 dJ7_isLatin1_7 (by first | assumption | (simp [-List.getD_eq_getElem?_getD, xE_setI, xsz_setI, xsl_setI, xtag_setI, xown_setI, xlen_setI, xE_setR, xsz_setR, xsl_setR, xtag_setR, xown_setR, xlen_setR, xE_setW, xsz_setW, xsl_setW, xtag_setW, xown_setW, xlen_setW, xi_setR, xi_setW, xr_setI, xr_setW, xww_setI, xww_setR, xi_setI, xr_setR, xww_setW, xE_new, xsz_new, xsl_new, s1, s4, xsub]; done) | (simp [-List.getD_eq_getElem?_getD, xE_setI, xsz_setI, xsl_setI, xtag_setI, xown_setI, xlen_setI, xE_setR, xsz_setR, xsl_setR, xtag_setR, xown_setR, xlen_setR, xE_setW, xsz_setW, xsl_setW, xtag_setW, xown_setW, xlen_setW, xi_setR, xi_setW, xr_setI, xr_setW, xww_setI, xww_setR, xi_setI, xr_setR, xww_setW, xE_new, xsz_new, xsl_new, s1, s4] <;> rfl)) (by simp [-List.getD_eq_getElem?_getD, xE_setI, xsz_setI, xsl_setI, xtag_setI, xown_setI, xlen_setI, xE_setR, xsz_setR, xsl_setR, xtag_setR, xown_setR, xlen_setR, xE_setW, xsz_setW, xsl_setW, xtag_setW, xown_setW, xlen_setW, xi_setR, xi_setW, xr_setI, xr_setW, xww_setI, xww_setR, xi_setI, xr_setR, xww_setW, xE_new, xsz_new, xsl_new, s1, s4]) ?_
  refine xw_if_ne (pc := 10) 17 dJ7_isLatin1_10 rfl (fun hb => absurd hb (by decide)) (fun _ => ?_)
  refine xw_iconst (v := nI 1) (pc := 13) dJ7_isLatin1_13 rfl ?_
  refine xw_goto (pc := 14) 18 dJ7_isLatin1_14 rfl ?_
  refine xw_iret (pc := 18) .boolean dJ7_isLatin1_18 rfl ?_ 
  exact ⟨rfl, rfl⟩

theorem SP_J7_isLatin1_1 {d : Nat} {g : xG} {b : Nat} (s1 : xtag g b = 19) (s4 : xi g b 1 = nI 1) : XM M_J7_isLatin1 d [.ref b] g (xOne (some (.int (bI false))) g) := by
  refine xm_of (by decide +kernel) (Nat.le_of_ble_eq_true rfl) ?_
  show XW _ _ 0 [(0, _)] [] _ _
  refine xw_gets (i := 7) (pc := 0) dJ7_isLatin1_0 rfl q229 ?_
  refine xw_if_eq (pc := 3) 17 dJ7_isLatin1_3 rfl (fun hb => absurd hb (by decide)) (fun _ => ?_)
  refine xw_aload_n (pc := 6) dJ7_isLatin1_6 0 rfl ?_
  refine xw_getNat (k := 1) (pc := 7) fd_J7_22 dJ7_isLatin1_7 (by first | assumption | (simp [-List.getD_eq_getElem?_getD, xE_setI, xsz_setI, xsl_setI, xtag_setI, xown_setI, xlen_setI, xE_setR, xsz_setR, xsl_setR, xtag_setR, xown_setR, xlen_setR, xE_setW, xsz_setW, xsl_setW, xtag_setW, xown_setW, xlen_setW, xi_setR, xi_setW, xr_setI, xr_setW, xww_setI, xww_setR, xi_setI, xr_setR, xww_setW, xE_new, xsz_new, xsl_new, s1, s4, xsub]; done) | (simp [-List.getD_eq_getElem?_getD, xE_setI, xsz_setI, xsl_setI, xtag_setI, xown_setI, xlen_setI, xE_setR, xsz_setR, xsl_setR, xtag_setR, xown_setR, xlen_setR, xE_setW, xsz_setW, xsl_setW, xtag_setW, xown_setW, xlen_setW, xi_setR, xi_setW, xr_setI, xr_setW, xww_setI, xww_setR, xi_setI, xr_setR, xww_setW, xE_new, xsz_new, xsl_new, s1, s4] <;> rfl)) (by simp [-List.getD_eq_getElem?_getD, xE_setI, xsz_setI, xsl_setI, xtag_setI, xown_setI, xlen_setI, xE_setR, xsz_setR, xsl_setR, xtag_setR, xown_setR, xlen_setR, xE_setW, xsz_setW, xsl_setW, xtag_setW, xown_setW, xlen_setW, xi_setR, xi_setW, xr_setI, xr_setW, xww_setI, xww_setR, xi_setI, xr_setR, xww_setW, xE_new, xsz_new, xsl_new, s1, s4]) ?_
  refine xw_if_ne (pc := 10) 17 dJ7_isLatin1_10 rfl (fun _ => ?_) (fun hb => absurd hb (by decide))
  refine xw_iconst (v := nI 0) (pc := 17) dJ7_isLatin1_17 rfl ?_
  refine xw_iret (pc := 18) .boolean dJ7_isLatin1_18 rfl ?_ 
  exact ⟨rfl, rfl⟩

theorem SP_J15_canEncode {d : Nat} {g : xG} {c : Nat} (hc : c < 65536) : XM M_J15_canEncode d [.int (nI c)] g (xOne (some (.int (bI (decide (c < 256))))) g) := by
  refine xm_of (by decide +kernel) (Nat.le_of_ble_eq_true rfl) ?_
  show XW _ _ 0 [(0, _)] [] _ _
  refine xw_iload_n (pc := 0) dJ15_canEncode_0 0 rfl ?_
  refine xw_sipush (v := nI 255) (pc := 1) dJ15_canEncode_1 (by decide +kernel) ?_
  refine xw_icmp_gt (pc := 4) 11 dJ15_canEncode_4 rfl (fun hb4 => ?_) (fun hb4 => ?_)
  · replace hb4 : 255 < c := (nI_ltI (a := 255) (b := c) (by omega) (by omega)).mp hb4
    refine xw_iconst (v := nI 0) (pc := 11) dJ15_canEncode_11 rfl ?_
    refine xw_iret (pc := 12) .boolean dJ15_canEncode_12 rfl ?_ 
    first
    | exact ⟨by rw [decide_eq_true (show c < 256 by omega)]; rfl, rfl⟩
    | exact ⟨by rw [decide_eq_false (show ¬ c < 256 by omega)]; rfl, rfl⟩
  · replace hb4 : ¬ (255 < c) := mt (nI_ltI (a := 255) (b := c) (by omega) (by omega)).mpr hb4
    refine xw_iconst (v := nI 1) (pc := 7) dJ15_canEncode_7 rfl ?_
    refine xw_goto (pc := 8) 12 dJ15_canEncode_8 rfl ?_
    refine xw_iret (pc := 12) .boolean dJ15_canEncode_12 rfl ?_ 
    first
    | exact ⟨by rw [decide_eq_true (show c < 256 by omega)]; rfl, rfl⟩
    | exact ⟨by rw [decide_eq_false (show ¬ c < 256 by omega)]; rfl, rfl⟩

theorem SP_J10_length {d : Nat} {g : xG} {v : Nat} (s6 : xtag g v = 103) (hl : xlen g v < 2 ^ 30) : XM M_J10_length d [.ref v] g (xOne (some (.int (nI (xlen g v / 2)))) g) := by
  refine xm_of (by decide +kernel) (Nat.le_of_ble_eq_true rfl) ?_
  show XW _ _ 0 [(0, _)] [] _ _
  refine xw_aload_n (pc := 0) dJ10_length_0 0 rfl ?_
  refine xw_alen (q := 2) (pc := 1) dJ10_length_1 (by simp [-List.getD_eq_getElem?_getD, xE_setI, xsz_setI, xsl_setI, xtag_setI, xown_setI, xlen_setI, xE_setR, xsz_setR, xsl_setR, xtag_setR, xown_setR, xlen_setR, xE_setW, xsz_setW, xsl_setW, xtag_setW, xown_setW, xlen_setW, xi_setR, xi_setW, xr_setI, xr_setW, xww_setI, xww_setR, xi_setI, xr_setR, xww_setW, xE_new, xsz_new, xsl_new, s6]) (by first | decide | omega) ?_
  refine xw_iconst (v := nI 1) (pc := 2) dJ10_length_2 rfl ?_
  refine xn_ishr (c := (xlen g v / 2)) (pc := 3) dJ10_length_3 (by decide) (by first | omega | (simp; done) | (simp; omega)) (by omega) ?_
  refine xw_iret (pc := 4) .int dJ10_length_4 rfl ?_ 
  exact ⟨rfl, rfl⟩

theorem SP_J14_checkIndexR {d : Nat} {g : xG} {i n t : Nat} (h : i < n) (hn : n < 2 ^ 31) : XM M_J14_checkIndex d [.int (nI i), .int (nI n), .ref t] g (xOne (some (.int (nI i))) g) := by
  refine xm_of (by decide +kernel) (Nat.le_of_ble_eq_true rfl) ?_
  show XW _ _ 0 [(0, _), (1, _), (2, _)] [] _ _
  refine xw_iload_n (pc := 0) dJ14_checkIndex_0 0 rfl ?_
  refine xw_if_lt (pc := 1) 9 dJ14_checkIndex_1 rfl (fun hb1 => ?_) (fun hb1 => ?_)
  · exfalso
    replace hb1 : i < 0 := (nI_ltI (a := i) (b := 0) (by omega) (by omega)).mp hb1
    omega
  replace hb1 : ¬ (i < 0) := mt (nI_ltI (a := i) (b := 0) (by omega) (by omega)).mpr hb1
  refine xw_iload_n (pc := 4) dJ14_checkIndex_4 0 rfl ?_
  refine xw_iload_n (pc := 5) dJ14_checkIndex_5 1 rfl ?_
  refine xw_icmp_lt (pc := 6) 16 dJ14_checkIndex_6 rfl (fun hb6 => ?_) (fun hb6 => ?_)
  rotate_left
  · exfalso
    replace hb6 : ¬ (i < n) := mt (nI_ltI (a := i) (b := n) (by omega) (by omega)).mpr hb6
    omega
  replace hb6 : i < n := (nI_ltI (a := i) (b := n) (by omega) (by omega)).mp hb6
  refine xw_iload_n (pc := 16) dJ14_checkIndex_16 0 rfl ?_
  refine xw_iret (pc := 17) .int dJ14_checkIndex_17 rfl ?_ 
  exact ⟨rfl, rfl⟩

theorem SP_J9_checkIndex {d : Nat} {g : xG} {i n : Nat} (h : i < n) (hn : n < 2 ^ 31) : XM M_J9_checkIndex (d + 1) [.int (nI i), .int (nI n)] g (xOne none g) := by
  refine xm_of (by decide +kernel) (Nat.le_of_ble_eq_true rfl) ?_
  show XW _ _ 0 [(0, _), (1, _)] [] _ _
  refine xw_iload_n (pc := 0) dJ9_checkIndex_0 0 rfl ?_
  refine xw_iload_n (pc := 1) dJ9_checkIndex_1 1 rfl ?_
  refine xw_getsQ (pc := 2) (rs0 := .inl none) (g0 := g) dJ9_checkIndex_2 (List.mem_of_getElem? (i := 2) rfl) q317 ?_ (fun t => ?_) ⟨rfl, rfl⟩
  ·
    refine xw_callV (pc := 5) (xr_S (as := [_, _, _]) ok_J14_checkIndex rfl (by decide) q1829 q713 dJ9_checkIndex_5 rfl rfl (Nat.le_of_ble_eq_true rfl)) (SP_J14_checkIndex h hn) ?_
    refine xw_pop (pc := 8) dJ9_checkIndex_8 rfl ?_
    refine xw_vret (pc := 9) dJ9_checkIndex_9 rfl ?_
    exact ⟨rfl, rfl⟩
  ·
    refine xw_callV (pc := 5) (xr_S (as := [_, _, _]) ok_J14_checkIndex rfl (by decide) q1829 q713 dJ9_checkIndex_5 rfl rfl (Nat.le_of_ble_eq_true rfl)) (SP_J14_checkIndexR h hn) ?_
    refine xw_pop (pc := 8) dJ9_checkIndex_8 rfl ?_
    refine xw_vret (pc := 9) dJ9_checkIndex_9 rfl ?_
    exact ⟨rfl, rfl⟩
theorem SP_J10_checkIndex {d : Nat} {g : xG} {v k : Nat} (s6 : xtag g v = 103) (hk : 2 * k + 1 < xlen g v) (hl : xlen g v < 2 ^ 30) : XM M_J10_checkIndex (d + 2) [.int (nI k), .ref v] g (xOne none g) := by
  refine xm_of (by decide +kernel) (Nat.le_of_ble_eq_true rfl) ?_
  show XW _ _ 0 [(0, _), (1, _)] [] _ _
  refine xw_iload_n (pc := 0) dJ10_checkIndex_0 0 rfl ?_
  refine xw_aload_n (pc := 1) dJ10_checkIndex_1 1 rfl ?_
  refine xw_callV (pc := 2) (xr_S (as := [_]) ok_J10_length rfl (by decide) q311 q312 dJ10_checkIndex_2 rfl rfl (Nat.le_of_ble_eq_true rfl)) (SP_J10_length s6 hl) ?_
  refine xw_callU (pc := 5) (xr_S (as := [_, _]) ok_J9_checkIndex rfl (by decide) q1826 q1827 dJ10_checkIndex_5 rfl rfl (Nat.le_of_ble_eq_true rfl)) (SP_J9_checkIndex (by omega) (by omega)) ?_
  refine xw_vret (pc := 8) dJ10_checkIndex_8 rfl ?_
  exact ⟨rfl, rfl⟩

theorem SP_J10_putChar {d : Nat} {g : xG} {v k c : Nat} (s6 : xtag g v = 103) (hk : 2 * k + 1 < xlen g v) (hl : xlen g v < 2 ^ 30) (hc : c < 65536) (ho : xown g v ≠ 0) : XM M_J10_putChar d [.ref v, .int (nI k), .int (nI c)] g (xOne none (xsetI (xsetI g v (2 * k) (bt c)) v (2 * k + 1) (bt (c / 256)))) := by
  refine xm_of (by decide +kernel) (Nat.le_of_ble_eq_true rfl) ?_
  show XW _ _ 0 [(0, _), (1, _), (2, _)] [] _ _
  refine xw_gets (i := 8) (pc := 0) dJ10_putChar_0 rfl q325 ?_
  refine xw_if_ne (pc := 3) 28 dJ10_putChar_3 rfl (fun _ => ?_) (fun hb => absurd hb (by decide))
  refine xw_iload_n (pc := 28) dJ10_putChar_28 1 rfl ?_
  refine xw_iconst (v := nI 1) (pc := 29) dJ10_putChar_29 rfl ?_
  refine xn_ishl (c := (k * 2)) (pc := 30) dJ10_putChar_30 (by decide) (by first | omega | (simp; done) | (simp; omega)) ?_
  refine xw_istore_n (l' := [(1, _), (0, _), (2, _)]) (pc := 31) dJ10_putChar_31 rfl (by decide) rfl ?_
  refine xw_aload_n (pc := 32) dJ10_putChar_32 1 rfl ?_
  refine xw_iload_n (pc := 33) dJ10_putChar_33 0 rfl ?_
  refine xw_iinc (v := nI ((k * 2) + 1)) (l' := [(1, _), (0, _), (2, _)]) (pc := 34) dJ10_putChar_34 0 rfl (nI_add _ 1) (by decide) rfl ?_
  refine xw_iload_n (pc := 37) dJ10_putChar_37 2 rfl ?_
  refine xw_gets (i := 9) (pc := 38) dJ10_putChar_38 rfl q327 ?_
  refine xn_ishr (c := c) (pc := 41) dJ10_putChar_41 (by decide) (by first | omega | (simp; done) | (simp; omega)) (by omega) ?_
  skip
  refine xw_i2b (pc := 42) dJ10_putChar_42 ?_
  rw [show (nI c).toInt8.toInt32 = bt c from rfl]
  refine xw_bast (k := (k * 2)) (pc := 43) dJ10_putChar_43 (by simp [-List.getD_eq_getElem?_getD, xE_setI, xsz_setI, xsl_setI, xtag_setI, xown_setI, xlen_setI, xE_setR, xsz_setR, xsl_setR, xtag_setR, xown_setR, xlen_setR, xE_setW, xsz_setW, xsl_setW, xtag_setW, xown_setW, xlen_setW, xi_setR, xi_setW, xr_setI, xr_setW, xww_setI, xww_setR, xi_setI, xr_setR, xww_setW, xE_new, xsz_new, xsl_new, s6, ho]) (by first | assumption | (simp [-List.getD_eq_getElem?_getD, xE_setI, xsz_setI, xsl_setI, xtag_setI, xown_setI, xlen_setI, xE_setR, xsz_setR, xsl_setR, xtag_setR, xown_setR, xlen_setR, xE_setW, xsz_setW, xsl_setW, xtag_setW, xown_setW, xlen_setW, xi_setR, xi_setW, xr_setI, xr_setW, xww_setI, xww_setR, xi_setI, xr_setR, xww_setW, xE_new, xsz_new, xsl_new, s6, ho]; done) | (simp [-List.getD_eq_getElem?_getD, xE_setI, xsz_setI, xsl_setI, xtag_setI, xown_setI, xlen_setI, xE_setR, xsz_setR, xsl_setR, xtag_setR, xown_setR, xlen_setR, xE_setW, xsz_setW, xsl_setW, xtag_setW, xown_setW, xlen_setW, xi_setR, xi_setW, xr_setI, xr_setW, xww_setI, xww_setR, xi_setI, xr_setR, xww_setW, xE_new, xsz_new, xsl_new, s6, ho]; assumption)) rfl (by omega) ?_
  rw [show (bt c).toInt8.toInt32 = bt c from bt_i, show k * 2 = 2 * k from Nat.mul_comm _ _]
  refine xw_aload_n (pc := 44) dJ10_putChar_44 1 rfl ?_
  refine xw_iload_n (pc := 45) dJ10_putChar_45 0 rfl ?_
  refine xw_iload_n (pc := 46) dJ10_putChar_46 2 rfl ?_
  refine xw_gets (i := 10) (pc := 47) dJ10_putChar_47 rfl q329 ?_
  refine xn_ishr (c := (c / 256)) (pc := 50) dJ10_putChar_50 (by decide) (by first | omega | (simp; done) | (simp; omega)) (by omega) ?_
  refine xw_i2b (pc := 51) dJ10_putChar_51 ?_
  rw [show (nI (c / 256)).toInt8.toInt32 = bt (c / 256) from rfl]
  refine xw_bast (k := 2 * k + 1) (pc := 52) dJ10_putChar_52 (by simp [-List.getD_eq_getElem?_getD, xE_setI, xsz_setI, xsl_setI, xtag_setI, xown_setI, xlen_setI, xE_setR, xsz_setR, xsl_setR, xtag_setR, xown_setR, xlen_setR, xE_setW, xsz_setW, xsl_setW, xtag_setW, xown_setW, xlen_setW, xi_setR, xi_setW, xr_setI, xr_setW, xww_setI, xww_setR, xi_setI, xr_setR, xww_setW, xE_new, xsz_new, xsl_new, s6, ho]) (by first | assumption | (simp [-List.getD_eq_getElem?_getD, xE_setI, xsz_setI, xsl_setI, xtag_setI, xown_setI, xlen_setI, xE_setR, xsz_setR, xsl_setR, xtag_setR, xown_setR, xlen_setR, xE_setW, xsz_setW, xsl_setW, xtag_setW, xown_setW, xlen_setW, xi_setR, xi_setW, xr_setI, xr_setW, xww_setI, xww_setR, xi_setI, xr_setR, xww_setW, xE_new, xsz_new, xsl_new, s6, ho]; done) | (simp [-List.getD_eq_getElem?_getD, xE_setI, xsz_setI, xsl_setI, xtag_setI, xown_setI, xlen_setI, xE_setR, xsz_setR, xsl_setR, xtag_setR, xown_setR, xlen_setR, xE_setW, xsz_setW, xsl_setW, xtag_setW, xown_setW, xlen_setW, xi_setR, xi_setW, xr_setI, xr_setW, xww_setI, xww_setR, xi_setI, xr_setR, xww_setW, xE_new, xsz_new, xsl_new, s6, ho]; assumption)) rfl (by rw [xlen_setI]; omega) ?_
  rw [show (bt (c / 256)).toInt8.toInt32 = bt (c / 256) from bt_i]
  refine xw_vret (pc := 53) dJ10_putChar_53 rfl ?_
  exact ⟨rfl, rfl⟩

theorem SP_J10_putCharSB {d : Nat} {g : xG} {v k c : Nat} (s6 : xtag g v = 103) (hk : 2 * k + 1 < xlen g v) (hl : xlen g v < 2 ^ 30) (hc : c < 65536) (ho : xown g v ≠ 0) : XM M_J10_putCharSB (d + 3) [.ref v, .int (nI k), .int (nI c)] g (xOne none (xsetI (xsetI g v (2 * k) (bt c)) v (2 * k + 1) (bt (c / 256)))) := by
  refine xm_of (by decide +kernel) (Nat.le_of_ble_eq_true rfl) ?_
  show XW _ _ 0 [(0, _), (1, _), (2, _)] [] _ _
  refine xw_iload_n (pc := 0) dJ10_putCharSB_0 1 rfl ?_
  refine xw_aload_n (pc := 1) dJ10_putCharSB_1 0 rfl ?_
  refine xw_callU (pc := 2) (xr_S (as := [_, _]) ok_J10_checkIndex rfl (by decide) q1823 q1824 dJ10_putCharSB_2 rfl rfl (Nat.le_of_ble_eq_true rfl)) (SP_J10_checkIndex s6 hk hl) ?_
  refine xw_aload_n (pc := 5) dJ10_putCharSB_5 0 rfl ?_
  refine xw_iload_n (pc := 6) dJ10_putCharSB_6 1 rfl ?_
  refine xw_iload_n (pc := 7) dJ10_putCharSB_7 2 rfl ?_
  refine xw_callU (pc := 8) (xr_S (as := [_, _, _]) ok_J10_putChar rfl (by decide) q322 q323 dJ10_putCharSB_8 rfl rfl (Nat.le_of_ble_eq_true rfl)) (SP_J10_putChar s6 hk hl hc ho) ?_
  refine xw_vret (pc := 11) dJ10_putCharSB_11 rfl ?_
  exact ⟨rfl, rfl⟩

theorem SP_J10_getChar {d : Nat} {g : xG} {v k c : Nat} (s6 : xtag g v = 103) (hk : 2 * k + 1 < xlen g v) (hl : xlen g v < 2 ^ 30) (hc : c < 65536) (h1 : xi g v (2 * k) = bt c) (h2 : xi g v (2 * k + 1) = bt (c / 256)) : XM M_J10_getChar d [.ref v, .int (nI k)] g (xOne (some (.int (nI c))) g) := by
  refine xm_of (by decide +kernel) (Nat.le_of_ble_eq_true rfl) ?_
  show XW _ _ 0 [(0, _), (1, _)] [] _ _
  refine xw_gets (i := 8) (pc := 0) dJ10_getChar_0 rfl q325 ?_
  refine xw_if_ne (pc := 3) 28 dJ10_getChar_3 rfl (fun _ => ?_) (fun hb => absurd hb (by decide))
  refine xw_iload_n (pc := 28) dJ10_getChar_28 1 rfl ?_
  refine xw_iconst (v := nI 1) (pc := 29) dJ10_getChar_29 rfl ?_
  refine xn_ishl (c := (k * 2)) (pc := 30) dJ10_getChar_30 (by decide) (by first | omega | (simp; done) | (simp; omega)) ?_
  refine xw_istore_n (l' := [(1, _), (0, _)]) (pc := 31) dJ10_getChar_31 rfl (by decide) rfl ?_
  refine xw_aload_n (pc := 32) dJ10_getChar_32 1 rfl ?_
  refine xw_iload_n (pc := 33) dJ10_getChar_33 0 rfl ?_
  refine xw_iinc (v := nI ((k * 2) + 1)) (l' := [(1, _), (0, _)]) (pc := 34) dJ10_getChar_34 0 rfl (nI_add _ 1) (by decide) rfl ?_
  refine xw_bald (k := (k * 2)) (pc := 37) dJ10_getChar_37 (by simp [-List.getD_eq_getElem?_getD, xE_setI, xsz_setI, xsl_setI, xtag_setI, xown_setI, xlen_setI, xE_setR, xsz_setR, xsl_setR, xtag_setR, xown_setR, xlen_setR, xE_setW, xsz_setW, xsl_setW, xtag_setW, xown_setW, xlen_setW, xi_setR, xi_setW, xr_setI, xr_setW, xww_setI, xww_setR, xi_setI, xr_setR, xww_setW, xE_new, xsz_new, xsl_new, s6]) rfl (by omega) ?_
  refine xw_sipush (v := nI 255) (pc := 38) dJ10_getChar_38 (by decide +kernel) ?_
  rw [show k * 2 = 2 * k from Nat.mul_comm _ _, h1]
  refine xw_iand (pc := 41) dJ10_getChar_41 ?_
  rw [bt_and]
  refine xw_gets (i := 9) (pc := 42) dJ10_getChar_42 rfl q327 ?_
  refine xn_ishl (c := (c % 256)) (pc := 45) dJ10_getChar_45 (by decide) (by first | omega | (simp; done) | (simp; omega)) ?_
  refine xw_aload_n (pc := 46) dJ10_getChar_46 1 rfl ?_
  refine xw_iload_n (pc := 47) dJ10_getChar_47 0 rfl ?_
  refine xw_bald (k := 2 * k + 1) (pc := 48) dJ10_getChar_48 (by simp [-List.getD_eq_getElem?_getD, xE_setI, xsz_setI, xsl_setI, xtag_setI, xown_setI, xlen_setI, xE_setR, xsz_setR, xsl_setR, xtag_setR, xown_setR, xlen_setR, xE_setW, xsz_setW, xsl_setW, xtag_setW, xown_setW, xlen_setW, xi_setR, xi_setW, xr_setI, xr_setW, xww_setI, xww_setR, xi_setI, xr_setR, xww_setW, xE_new, xsz_new, xsl_new, s6]) rfl (by omega) ?_
  refine xw_sipush (v := nI 255) (pc := 49) dJ10_getChar_49 (by decide +kernel) ?_
  rw [h2]
  refine xw_iand (pc := 52) dJ10_getChar_52 ?_
  rw [bt_and]
  refine xw_gets (i := 10) (pc := 53) dJ10_getChar_53 rfl q329 ?_
  refine xn_ishl (c := ((c / 256 % 256) * 256)) (pc := 56) dJ10_getChar_56 (by decide) (by first | omega | (simp; done) | (simp; omega)) ?_
  refine xw_ior (pc := 57) dJ10_getChar_57 ?_
  rw [nI_hilo hc]
  refine xw_i2c (pc := 58) dJ10_getChar_58 ?_
  rw [nI_i2c hc]
  refine xw_iret (pc := 59) .char dJ10_getChar_59 rfl ?_ (by exact nI_chr hc)
  exact ⟨rfl, rfl⟩

