/-! CORE 21: shifts, least and greatest of numbers; reads over a whole row -/
set_option maxRecDepth 100000
theorem nI_shr {a b : Nat} (hD : ((nI b &&& 31).toBitVec.smod 32).toNat = b) (h : a < 2 ^ 31) : nI a >>> (nI b &&& 31) = nI (a / 2 ^ b) := by
  have hd : a / 2 ^ b ≤ a := Nat.div_le_self _ _
  apply Int32.toInt_inj.mp
  have e : (nI a >>> (nI b &&& 31)).toInt = (nI a).toInt >>> b := by
    conv => rhs; rw [← hD]
    exact BitVec.toInt_sshiftRight ..
  rw [e, Int.shiftRight_eq_div_pow, nI_toInt h, nI_toInt (by omega)]
  rfl
theorem nI_shl {a b : Nat} (hD : ((nI b &&& 31).toBitVec.smod 32).toNat = b) : nI a <<< (nI b &&& 31) = nI (a * 2 ^ b) := by
  apply Int32.toBitVec_inj.mp
  show (nI a).toBitVec <<< ((nI b &&& 31).toBitVec.smod 32) = _
  apply BitVec.eq_of_toNat_eq
  show ((nI a).toBitVec <<< ((nI b &&& 31).toBitVec.smod 32).toNat).toNat = _
  rw [hD, BitVec.toNat_shiftLeft, Nat.shiftLeft_eq]
  show (BitVec.ofNat 32 a).toNat * 2 ^ b % 2 ^ 32 = (BitVec.ofNat 32 (a * 2 ^ b)).toNat
  rw [BitVec.toNat_ofNat, BitVec.toNat_ofNat, Nat.mod_mul_mod]
theorem nI_dec1 {a : Nat} (h : 1 ≤ a) : nI a + Int32.ofInt (-1) = nI (a - 1) := by
  rw [← nI_sub h]
  show nI a + Int32.ofInt (-1) = nI a - nI 1
  rw [Int32.sub_eq_add_neg]
  rfl
section X21
variable {M : xM} {d pc : Nat} {l : List (Nat × Value)} {rest : List Value} {g : xG} {Q : Option Value ⊕ Nat → xG → Prop}
theorem xn_ishr {a b c : Nat} (hd : decode M.2.1 pc = .ok (.ishr, 1)) (hD : ((nI b &&& 31).toBitVec.smod 32).toNat = b) (hc : a / 2 ^ b = c) (h : a < 2 ^ 31) (k : XW M d (pc + 1) l (.int (nI c) :: rest) g Q) : XW M d pc l (.int (nI b) :: .int (nI a) :: rest) g Q :=
  xw_ishr hd (by rw [nI_shr hD h, hc]; exact k)
theorem xn_ishl {a b c : Nat} (hd : decode M.2.1 pc = .ok (.ishl, 1)) (hD : ((nI b &&& 31).toBitVec.smod 32).toNat = b) (hc : a * 2 ^ b = c) (k : XW M d (pc + 1) l (.int (nI c) :: rest) g Q) : XW M d pc l (.int (nI b) :: .int (nI a) :: rest) g Q :=
  xw_ishl hd (by rw [nI_shl hD, hc]; exact k)
theorem nI_mx {a b : Nat} (ha : a < 2 ^ 31) (hb : b < 2 ^ 31) : (if nI a < nI b then nI b else nI a) = nI (max a b) := by
  by_cases h : a < b
  · rw [if_pos ((nI_ltI ha hb).mpr h)]
    congr 1
    omega
  · rw [if_neg (fun q => h ((nI_ltI ha hb).mp q))]
    congr 1
    omega
theorem nI_mn {a b : Nat} (ha : a < 2 ^ 31) (hb : b < 2 ^ 31) : (if nI b < nI a then nI b else nI a) = nI (min a b) := by
  by_cases h : b < a
  · rw [if_pos ((nI_ltI hb ha).mpr h)]
    congr 1
    omega
  · rw [if_neg (fun q => h ((nI_ltI hb ha).mp q))]
    congr 1
    omega
theorem xn_mmax {idx a b : Nat} (hd : decode M.2.1 pc = .ok (.invokestatic idx, 3)) (hl : Cond.methodLink M.1.cls idx Lib.Math.max.name ∈ lw_all) (hi : Cond.initialized "java/lang/Math" ∈ lw_all) (hr : (rest.map fun v => v.category).sum ≤ 8) (ha : a < 2 ^ 31) (hb : b < 2 ^ 31) (k : XW M (d + 1) (pc + 3) l (.int (nI (max a b)) :: rest) g Q) : XW M (d + 1) pc l (.int (nI b) :: .int (nI a) :: rest) g Q :=
  xw_mmax hd hl hi hr (by rw [nI_mx ha hb]; exact k)
theorem xn_mmin {idx a b : Nat} (hd : decode M.2.1 pc = .ok (.invokestatic idx, 3)) (hl : Cond.methodLink M.1.cls idx Lib.Math.min.name ∈ lw_all) (hi : Cond.initialized "java/lang/Math" ∈ lw_all) (hr : (rest.map fun v => v.category).sum ≤ 8) (ha : a < 2 ^ 31) (hb : b < 2 ^ 31) (k : XW M (d + 1) (pc + 3) l (.int (nI (min a b)) :: rest) g Q) : XW M (d + 1) pc l (.int (nI b) :: .int (nI a) :: rest) g Q :=
  xw_mmin hd hl hi hr (by rw [nI_mn ha hb]; exact k)
end X21
section X21b
variable {g : xG} {a b j k : Nat} {c : xCell}
theorem xtag_put (h : c.1 = xtag g a) : xtag (xPut g a c) b = xtag g b := by
  by_cases e : b = a
  · subst e
    by_cases hb : b < xsz g
    · unfold xtag; rw [xc_put hb, h]; rfl
    · unfold xtag xc; rw [if_neg hb, if_neg (show ¬ b < xsz (xPut g b c) from hb)]
  · unfold xtag; rw [xc_putN e]
theorem xown_put (h : c.2.1 = xown g a) : xown (xPut g a c) b = xown g b := by
  by_cases e : b = a
  · subst e
    by_cases hb : b < xsz g
    · unfold xown; rw [xc_put hb, h]; rfl
    · unfold xown xc; rw [if_neg hb, if_neg (show ¬ b < xsz (xPut g b c) from hb)]
  · unfold xown; rw [xc_putN e]
theorem xlen_put (h : c.2.2.1 = xlen g a) : xlen (xPut g a c) b = xlen g b := by
  by_cases e : b = a
  · subst e
    by_cases hb : b < xsz g
    · unfold xlen; rw [xc_put hb, h]; rfl
    · unfold xlen xc; rw [if_neg hb, if_neg (show ¬ b < xsz (xPut g b c) from hb)]
  · unfold xlen; rw [xc_putN e]
theorem xi_putS (h : a < xsz g) : xi (xPut g a c) a j = c.2.2.2.1 j := by unfold xi; rw [xc_put h]
theorem xi_putN (h : b ≠ a) : xi (xPut g a c) b j = xi g b j := by unfold xi; rw [xc_putN h]
theorem xr_putS (h : a < xsz g) : xr (xPut g a c) a j = c.2.2.2.2.1 j := by unfold xr; rw [xc_put h]
theorem xr_putN (h : b ≠ a) : xr (xPut g a c) b j = xr g b j := by unfold xr; rw [xc_putN h]
theorem xsz_put : xsz (xPut g a c) = xsz g := rfl
theorem xE_put : xE (xPut g a c) = xE g := rfl
theorem xtag_pR {f : Nat → Option Nat} : xtag (xPut g a (xcR (xc g a) f)) b = xtag g b := xtag_put rfl
theorem xown_pR {f : Nat → Option Nat} : xown (xPut g a (xcR (xc g a) f)) b = xown g b := xown_put rfl
theorem xlen_pR {f : Nat → Option Nat} : xlen (xPut g a (xcR (xc g a) f)) b = xlen g b := xlen_put rfl
theorem xi_pR {f : Nat → Option Nat} : xi (xPut g a (xcR (xc g a) f)) b j = xi g b j := by
  by_cases e : b = a
  · subst e
    by_cases hb : b < xsz g
    · rw [xi_putS hb]; rfl
    · unfold xi xc; rw [if_neg hb, if_neg (show ¬ b < xsz (xPut g b _) from hb)]
  · exact xi_putN e
theorem xtag_pI {f : Nat → Int32} : xtag (xPut g a (xcI (xc g a) f)) b = xtag g b := xtag_put rfl
theorem xown_pI {f : Nat → Int32} : xown (xPut g a (xcI (xc g a) f)) b = xown g b := xown_put rfl
theorem xlen_pI {f : Nat → Int32} : xlen (xPut g a (xcI (xc g a) f)) b = xlen g b := xlen_put rfl
theorem xr_pI {f : Nat → Int32} : xr (xPut g a (xcI (xc g a) f)) b j = xr g b j := by
  by_cases e : b = a
  · subst e
    by_cases hb : b < xsz g
    · rw [xr_putS hb]; rfl
    · unfold xr xc; rw [if_neg hb, if_neg (show ¬ b < xsz (xPut g b _) from hb)]
  · exact xr_putN e
theorem xr_pRS {f : Nat → Option Nat} (h : a < xsz g) : xr (xPut g a (xcR (xc g a) f)) a j = f j := xr_putS h
theorem xi_pIS {f : Nat → Int32} (h : a < xsz g) : xi (xPut g a (xcI (xc g a) f)) a j = f j := xi_putS h
theorem xFr.pR {O : Nat → Prop} {n : Nat} {g1 : xG} {f : Nat → Option Nat} (h : xFr O n g g1) (ho : xsz g ≤ a ∨ O (xown g1 a)) : xFr O n g (xPut g1 a (xcR (xc g1 a) f)) := h.put rfl rfl rfl ho
theorem xFr.pI {O : Nat → Prop} {n : Nat} {g1 : xG} {f : Nat → Int32} (h : xFr O n g g1) (ho : xsz g ≤ a ∨ O (xown g1 a)) : xFr O n g (xPut g1 a (xcI (xc g1 a) f)) := h.put rfl rfl rfl ho
end X21b
