/-! CORE 9: fields by a check; the reference's block of 14 cells -/
set_option maxRecDepth 100000
def xfldB (kk j : Nat) (ty : FieldType) (ref nm ds : String) : Bool := (List.range 28).all fun t => !(xsub kk t) || (match xcl[t - 1]? with
  | some q => decide (0 < t) && (decide (j < q.2.2) && (decide (j < xmin t) && ((q.2.1 j).2.1 == nm && ((q.2.1 j).2.2.1 == ds && (decide (xcty (t - 1) j = ty) && (q.2.1 j).1 == ref)))))
  | none => false)
theorem xsub_lt {kk t : Nat} (hk : kk < 28 ∨ kk = 90 ∨ kk = 91) (h : xsub kk t = true) : t < 28 := by
  unfold xsub at h
  rcases hk with hk | rfl | rfl
  · rw [if_neg (by omega), if_neg (by omega)] at h
    have := beq_iff_eq.mp h
    omega
  · simp at h
    omega
  · simp at h
    omega
theorem xfld_of {own ref nm ds : String} {idx kk j : Nat} {ty : FieldType} (hw : Cond.fieldLink own idx ref nm ds ∈ lw_all) (hk : kk < 28 ∨ kk = 90 ∨ kk = 91) (h : xfldB kk j ty ref nm ds = true) : xFld own idx kk j ty := by
  refine ⟨ref, nm, ds, Or.inl hw, fun t ht => ?_⟩
  have hlt := xsub_lt hk ht
  have h1 := List.all_eq_true.mp h t (List.mem_range.mpr hlt)
  rw [ht] at h1
  cases hq : xcl[t - 1]? with
  | none => rw [hq] at h1; cases h1
  | some q =>
    rw [hq] at h1
    simp only [Bool.not_true, Bool.false_or, Bool.and_eq_true, decide_eq_true_eq, beq_iff_eq] at h1
    obtain ⟨a1, a2, a3, a4, a5, a6, a7⟩ := h1
    exact ⟨q.1, q.2.1, q.2.2, a1, by omega, rfl, a2, a3, a4, a5, a6, Or.inl a7⟩
theorem xfld_ofN {own ref nm ds : String} {idx kk j : Nat} {host : String} {ty : FieldType} (hw : Cond.fieldLinkNest own idx ref nm ds host ∈ lw_tbl) (hk : kk < 28 ∨ kk = 90 ∨ kk = 91) (h : xfldB kk j ty ref nm ds = true) : xFld own idx kk j ty := by
  refine ⟨ref, nm, ds, Or.inr ⟨host, hw⟩, fun t ht => ?_⟩
  have hlt := xsub_lt hk ht
  have h1 := List.all_eq_true.mp h t (List.mem_range.mpr hlt)
  rw [ht] at h1
  cases hq : xcl[t - 1]? with
  | none => rw [hq] at h1; cases h1
  | some q =>
    rw [hq] at h1
    simp only [Bool.not_true, Bool.false_or, Bool.and_eq_true, decide_eq_true_eq, beq_iff_eq] at h1
    obtain ⟨a1, a2, a3, a4, a5, a6, a7⟩ := h1
    exact ⟨q.1, q.2.1, q.2.2, a1, by omega, rfl, a2, a3, a4, a5, a6, Or.inl a7⟩
def xfinB (M : xM) (kk j : Nat) : Bool := (List.range 28).all fun t => !(xsub kk t) || (match xcl[t - 1]? with
  | some q => !(q.2.1 j).2.2.2 || (M.1.name == "<init>" && (q.2.1 j).1 == M.1.cls)
  | none => true)
theorem xfin_of {M : xM} {kk j : Nat} (hk : kk < 28 ∨ kk = 90 ∨ kk = 91) (h : xfinB M kk j = true) : xFin M kk j := by
  intro t ht C T N hc
  have h1 := List.all_eq_true.mp h t (List.mem_range.mpr (xsub_lt hk ht))
  rw [ht, hc] at h1
  simp only [Bool.not_true, Bool.false_or, Bool.or_eq_true, Bool.and_eq_true, Bool.not_eq_true', beq_iff_eq] at h1
  rcases h1 with h1 | h1
  · exact Or.inl h1
  · cases hf : (T j).2.2.2 with
    | false => exact Or.inl rfl
    | true => exact Or.inr ⟨rfl, h1.1, h1.2⟩
/-! numbers -/
theorem nI_mul (a b : Nat) : nI a * nI b = nI (a * b) := by unfold nI; exact (Int32.ofNat_mul a b).symm
theorem nI_sub {a b : Nat} (h : b ≤ a) : nI a - nI b = nI (a - b) := by unfold nI; exact (Int32.ofNat_sub a b h).symm
def bI (b : Bool) : Int32 := match b with
  | true => 1
  | false => 0
/-! the reference's heap -/
abbrev xMS : Type := Nat → Nat → Int32
def xWith (g : xG) (m : Nat) (S : xMS) : xG := (g.1, g.2.1, g.2.2.1, fun a => if m ≤ a ∧ a < m + 14 then xcI (xc g a) (S (a - m)) else xc g a)
def mset (S : xMS) (p j : Nat) (v : Int32) : xMS := fun q i => if q = p ∧ i = j then v else S q i
/-- place, field, array's kind, length -/
def xmA : Nat → Option (Nat × Nat × Nat) := fun p => match p with
  | 1 => some (0, 0, 391)
  | 2 => some (1, 0, 391)
  | 3 => some (2, 0, 391)
  | 4 => some (4, 0, 3128)
  | 5 => some (10, 0, 180)
  | 6 => some (12, 1, 16)
  | 7 => some (13, 1, 16)
  | 8 => some (15, 0, 16)
  | 9 => some (18, 0, 18)
  | 10 => some (19, 4, 36)
  | 11 => some (20, 0, 3)
  | 12 => some (21, 3, 60)
  | 13 => some (32, 3, 200)
  | _ => none
def xMod (g : xG) (m : Nat) : Prop := xtag g m = 5 ∧ xown g m ≠ 0 ∧ ∀ p q, xmA p = some q → xr g m q.1 = some (m + p) ∧ xtag g (m + p) = 101 + q.2.1 ∧ xown g (m + p) ≠ 0 ∧ xlen g (m + p) = q.2.2
section X9
variable {g : xG} {m : Nat} {S : xMS}
theorem xc_with {p : Nat} (hp : p < 14) (h : m + p < xsz g) : xc (xWith g m S) (m + p) = xcI (xc g (m + p)) (S p) := by
  unfold xc
  rw [if_pos (show m + p < xsz (xWith g m S) from h), if_pos h]
  refine (if_pos ⟨by omega, by omega⟩).trans ?_
  rw [Nat.add_sub_cancel_left]
  unfold xc
  rw [if_pos h]
theorem xc_withN {a : Nat} (h : ¬ (m ≤ a ∧ a < m + 14)) : xc (xWith g m S) a = xc g a := by
  by_cases k : a < xsz g
  · refine (show xc (xWith g m S) a = _ from if_pos k).trans ?_
    exact if_neg h
  · refine (show xc (xWith g m S) a = _ from if_neg k).trans ?_
    exact (if_neg k).symm
theorem xtag_with {a : Nat} : xtag (xWith g m S) a = xtag g a := by
  show (xc (xWith g m S) a).1 = _
  by_cases k : m ≤ a ∧ a < m + 14
  · by_cases h : a < xsz g
    · have e : a = m + (a - m) := by omega
      rw [e, xc_with (by omega) (by omega)]
      rfl
    · unfold xtag xc
      rw [if_neg h, if_neg (show ¬ a < xsz (xWith g m S) from h)]
  · rw [xc_withN k]
    rfl
theorem xown_with {a : Nat} : xown (xWith g m S) a = xown g a := by
  show (xc (xWith g m S) a).2.1 = _
  by_cases k : m ≤ a ∧ a < m + 14
  · by_cases h : a < xsz g
    · have e : a = m + (a - m) := by omega
      rw [e, xc_with (by omega) (by omega)]
      rfl
    · unfold xown xc
      rw [if_neg h, if_neg (show ¬ a < xsz (xWith g m S) from h)]
  · rw [xc_withN k]
    rfl
theorem xlen_with {a : Nat} : xlen (xWith g m S) a = xlen g a := by
  show (xc (xWith g m S) a).2.2.1 = _
  by_cases k : m ≤ a ∧ a < m + 14
  · by_cases h : a < xsz g
    · have e : a = m + (a - m) := by omega
      rw [e, xc_with (by omega) (by omega)]
      rfl
    · unfold xlen xc
      rw [if_neg h, if_neg (show ¬ a < xsz (xWith g m S) from h)]
  · rw [xc_withN k]
    rfl
theorem xr_with {a j : Nat} : xr (xWith g m S) a j = xr g a j := by
  show (xc (xWith g m S) a).2.2.2.2.1 j = _
  by_cases k : m ≤ a ∧ a < m + 14
  · by_cases h : a < xsz g
    · have e : a = m + (a - m) := by omega
      rw [e, xc_with (by omega) (by omega)]
      rfl
    · unfold xr xc
      rw [if_neg h, if_neg (show ¬ a < xsz (xWith g m S) from h)]
  · rw [xc_withN k]
    rfl
theorem xi_with {p j : Nat} (hp : p < 14) (h : xtag g (m + p) ≠ 0) : xi (xWith g m S) (m + p) j = S p j := by
  show (xc (xWith g m S) (m + p)).2.2.2.1 j = _
  rw [xc_with hp (xlt h)]
  rfl
theorem xset_with {p j : Nat} {v : Int32} (hp : p < 14) (h : xtag g (m + p) ≠ 0) : xsetI (xWith g m S) (m + p) j v = xWith g m (mset S p j v) := by
  unfold xsetI xPut
  rw [xc_with hp (xlt h)]
  refine congrArg (fun f => (g.1, g.2.1, g.2.2.1, f)) (funext fun a => ?_)
  by_cases ha : a = m + p
  · subst ha
    rw [if_pos rfl, if_pos ⟨by omega, by omega⟩, Nat.add_sub_cancel_left]
    refine congrArg (xcI (xc g (m + p))) (funext fun i => ?_)
    show (if i = j then v else S p i) = _
    unfold mset
    by_cases hi : i = j
    · rw [if_pos hi, if_pos ⟨rfl, hi⟩]
    · rw [if_neg hi, if_neg (fun q => hi q.2)]
  · rw [if_neg ha]
    show (if m ≤ a ∧ a < m + 14 then _ else _) = _
    by_cases k : m ≤ a ∧ a < m + 14
    · rw [if_pos k, if_pos k]
      refine congrArg (xcI (xc g a)) (funext fun i => ?_)
      unfold mset
      rw [if_neg (fun q => ha (by omega))]
    · rw [if_neg k, if_neg k]
theorem xMod_tag (hM : xMod g m) : xtag g m ≠ 0 := by rw [hM.1]; decide
variable {M : xM} {d pc : Nat} {l : List (Nat × Value)} {rest : List Value} {Q : Option Value ⊕ Nat → xG → Prop}
/-- an array of the reference -/
theorem xm_get {idx p q j n : Nat} {ty : FieldType} (hM : xMod g m) (F : xFld M.1.cls idx 5 j ty) (hd : decode M.2.1 pc = .ok (.getfield idx, 3)) (hp : xmA p = some (j, q, n)) (k : XW M d (pc + 3) l (.ref (m + p) :: rest) (xWith g m S) Q) (hty : xval ty = (fun c j => xref (c.2.2.2.2.1 j)) := by rfl) : XW M d pc l (.ref m :: rest) (xWith g m S) Q :=
  xw_getS F hd (by rw [xtag_with, hM.1]; rfl) (by rw [xr_with]; exact (hM.2.2 _ _ hp).1) k hty
theorem xm_getI {idx j : Nat} {ty : FieldType} (hM : xMod g m) (F : xFld M.1.cls idx 5 j ty) (hd : decode M.2.1 pc = .ok (.getfield idx, 3)) (k : XW M d (pc + 3) l (.int (S 0 j) :: rest) (xWith g m S) Q) (hty : xval ty = (fun c j => .int (c.2.2.2.1 j)) := by rfl) : XW M d pc l (.ref m :: rest) (xWith g m S) Q :=
  xw_getI F hd (by rw [xtag_with, hM.1]; rfl) (by rw [show xi (xWith g m S) m j = S 0 j from xi_with (p := 0) (by decide) (xMod_tag hM)]; exact k) hty
theorem xm_putI {idx j : Nat} {ty : FieldType} {x : Int32} (hM : xMod g m) (F : xFld M.1.cls idx 5 j ty) (hfin : xFin M 5 j) (hd : decode M.2.1 pc = .ok (.putfield idx, 3)) (k : XW M d (pc + 3) l rest (xWith g m (mset S 0 j x)) Q)
    (hn : narrow ty (.int x) = .int x := by rfl) (hfit : fits ty (.int x) = true := by rfl) (hty : xval ty = (fun c j => .int (c.2.2.2.1 j)) := by rfl) : XW M d pc l (.int x :: .ref m :: rest) (xWith g m S) Q :=
  xw_putI F hfin hd (by rw [xtag_with, hM.1]; rfl) (by rw [xown_with]; exact hM.2.1) (by rw [show xsetI (xWith g m S) m j x = xWith g m (mset S 0 j x) from xset_with (p := 0) (by decide) (xMod_tag hM)]; exact k) hn hfit hty
theorem xmp_lt {p : Nat} {q : Nat × Nat × Nat} (hp : xmA p = some q) : p < 14 := by
  unfold xmA at hp
  split at hp <;> first | omega | (cases hp; done)
theorem xmp_tag {p : Nat} {q : Nat × Nat × Nat} (hM : xMod g m) (hp : xmA p = some q) : xtag g (m + p) ≠ 0 := by rw [(hM.2.2 _ _ hp).2.1]; omega
theorem xm_iald {p j n k : Nat} (hM : xMod g m) (hd : decode M.2.1 pc = .ok (.iaload, 1)) (hp : xmA p = some (j, 0, n)) (hk : k < n) (kk : XW M d (pc + 1) l (.int (S p k) :: rest) (xWith g m S) Q) : XW M d pc l (.int (nI k) :: .ref (m + p) :: rest) (xWith g m S) Q :=
  xw_iald hd (by rw [xtag_with]; exact (hM.2.2 _ _ hp).2.1) rfl (by rw [xlen_with, (hM.2.2 _ _ hp).2.2.2]; exact hk) (by rw [xi_with (xmp_lt hp) (xmp_tag hM hp)]; exact kk)
theorem xm_zald {p j n k : Nat} (hM : xMod g m) (hd : decode M.2.1 pc = .ok (.baload, 1)) (hp : xmA p = some (j, 1, n)) (hk : k < n) (kk : XW M d (pc + 1) l (.int (S p k) :: rest) (xWith g m S) Q) : XW M d pc l (.int (nI k) :: .ref (m + p) :: rest) (xWith g m S) Q :=
  xw_zald hd (by rw [xtag_with]; exact (hM.2.2 _ _ hp).2.1) rfl (by rw [xlen_with, (hM.2.2 _ _ hp).2.2.2]; exact hk) (by rw [xi_with (xmp_lt hp) (xmp_tag hM hp)]; exact kk)
theorem xm_cald {p j n k : Nat} (hM : xMod g m) (hd : decode M.2.1 pc = .ok (.caload, 1)) (hp : xmA p = some (j, 3, n)) (hk : k < n) (kk : XW M d (pc + 1) l (.int (S p k) :: rest) (xWith g m S) Q) : XW M d pc l (.int (nI k) :: .ref (m + p) :: rest) (xWith g m S) Q :=
  xw_cald hd (by rw [xtag_with]; exact (hM.2.2 _ _ hp).2.1) rfl (by rw [xlen_with, (hM.2.2 _ _ hp).2.2.2]; exact hk) (by rw [xi_with (xmp_lt hp) (xmp_tag hM hp)]; exact kk)
theorem xm_fald {p j n k : Nat} (hM : xMod g m) (hd : decode M.2.1 pc = .ok (.faload, 1)) (hp : xmA p = some (j, 4, n)) (hk : k < n) (kk : XW M d (pc + 1) l (.float (S p k).toUInt32 :: rest) (xWith g m S) Q) : XW M d pc l (.int (nI k) :: .ref (m + p) :: rest) (xWith g m S) Q :=
  xw_fald hd (by rw [xtag_with]; exact (hM.2.2 _ _ hp).2.1) rfl (by rw [xlen_with, (hM.2.2 _ _ hp).2.2.2]; exact hk) (by rw [xi_with (xmp_lt hp) (xmp_tag hM hp)]; exact kk)
theorem xm_iast {p j n k : Nat} {x : Int32} (hM : xMod g m) (hd : decode M.2.1 pc = .ok (.iastore, 1)) (hp : xmA p = some (j, 0, n)) (hk : k < n) (kk : XW M d (pc + 1) l rest (xWith g m (mset S p k x)) Q) : XW M d pc l (.int x :: .int (nI k) :: .ref (m + p) :: rest) (xWith g m S) Q :=
  xw_iast hd (by rw [xtag_with]; exact (hM.2.2 _ _ hp).2.1) (by rw [xown_with]; exact (hM.2.2 _ _ hp).2.2.1) rfl (by rw [xlen_with, (hM.2.2 _ _ hp).2.2.2]; exact hk) (by rw [xset_with (xmp_lt hp) (xmp_tag hM hp)]; exact kk)
theorem xm_zast {p j n k : Nat} {b : Bool} (hM : xMod g m) (hd : decode M.2.1 pc = .ok (.bastore, 1)) (hp : xmA p = some (j, 1, n)) (hk : k < n) (kk : XW M d (pc + 1) l rest (xWith g m (mset S p k (bI b))) Q) : XW M d pc l (.int (bI b) :: .int (nI k) :: .ref (m + p) :: rest) (xWith g m S) Q :=
  xw_zast hd (by rw [xtag_with]; exact (hM.2.2 _ _ hp).2.1) (by rw [xown_with]; exact (hM.2.2 _ _ hp).2.2.1) rfl (by rw [xlen_with, (hM.2.2 _ _ hp).2.2.2]; exact hk) (by cases b <;> rfl) (by cases b <;> rfl) (by rw [xset_with (xmp_lt hp) (xmp_tag hM hp)]; exact kk)
theorem xm_cast {p j n k : Nat} {x : Int32} (hM : xMod g m) (hd : decode M.2.1 pc = .ok (.castore, 1)) (hp : xmA p = some (j, 3, n)) (hk : k < n) (hx : narrow .char (.int x) = .int x) (hf : fits .char (.int x) = true) (kk : XW M d (pc + 1) l rest (xWith g m (mset S p k x)) Q) : XW M d pc l (.int x :: .int (nI k) :: .ref (m + p) :: rest) (xWith g m S) Q :=
  xw_cast hd (by rw [xtag_with]; exact (hM.2.2 _ _ hp).2.1) (by rw [xown_with]; exact (hM.2.2 _ _ hp).2.2.1) rfl (by rw [xlen_with, (hM.2.2 _ _ hp).2.2.2]; exact hk) hx hf (by rw [xset_with (xmp_lt hp) (xmp_tag hM hp)]; exact kk)
theorem xm_fast {p j n k : Nat} {x : UInt32} (hM : xMod g m) (hd : decode M.2.1 pc = .ok (.fastore, 1)) (hp : xmA p = some (j, 4, n)) (hk : k < n) (kk : XW M d (pc + 1) l rest (xWith g m (mset S p k x.toInt32)) Q) : XW M d pc l (.float x :: .int (nI k) :: .ref (m + p) :: rest) (xWith g m S) Q :=
  xw_fast hd (by rw [xtag_with]; exact (hM.2.2 _ _ hp).2.1) (by rw [xown_with]; exact (hM.2.2 _ _ hp).2.2.1) rfl (by rw [xlen_with, (hM.2.2 _ _ hp).2.2.2]; exact hk) (by rw [xset_with (xmp_lt hp) (xmp_tag hM hp)]; exact kk)
theorem xm_getN {idx j k : Nat} {ty : FieldType} (hM : xMod g m) (F : xFld M.1.cls idx 5 j ty) (hd : decode M.2.1 pc = .ok (.getfield idx, 3)) (h : S 0 j = nI k) (kk : XW M d (pc + 3) l (.int (nI k) :: rest) (xWith g m S) Q) (hty : xval ty = (fun c j => .int (c.2.2.2.1 j)) := by rfl) : XW M d pc l (.ref m :: rest) (xWith g m S) Q :=
  xm_getI hM F hd (by rw [h]; exact kk) hty
theorem xm_getB {idx j : Nat} {b : Bool} {ty : FieldType} (hM : xMod g m) (F : xFld M.1.cls idx 5 j ty) (hd : decode M.2.1 pc = .ok (.getfield idx, 3)) (h : S 0 j = bI b) (kk : XW M d (pc + 3) l (.int (bI b) :: rest) (xWith g m S) Q) (hty : xval ty = (fun c j => .int (c.2.2.2.1 j)) := by rfl) : XW M d pc l (.ref m :: rest) (xWith g m S) Q :=
  xm_getI hM F hd (by rw [h]; exact kk) hty
theorem xm_ialdN {p j n k v : Nat} (hM : xMod g m) (hd : decode M.2.1 pc = .ok (.iaload, 1)) (hp : xmA p = some (j, 0, n)) (hk : k < n) (hv : S p k = nI v) (kk : XW M d (pc + 1) l (.int (nI v) :: rest) (xWith g m S) Q) : XW M d pc l (.int (nI k) :: .ref (m + p) :: rest) (xWith g m S) Q :=
  xm_iald hM hd hp hk (by rw [hv]; exact kk)
theorem xm_zaldB {p j n k : Nat} {b : Bool} (hM : xMod g m) (hd : decode M.2.1 pc = .ok (.baload, 1)) (hp : xmA p = some (j, 1, n)) (hk : k < n) (hv : S p k = bI b) (kk : XW M d (pc + 1) l (.int (bI b) :: rest) (xWith g m S) Q) : XW M d pc l (.int (nI k) :: .ref (m + p) :: rest) (xWith g m S) Q :=
  xm_zald hM hd hp hk (by rw [hv]; exact kk)
theorem bI_0 {b : Bool} : bI b = 0 ↔ b = false := by cases b <;> decide
theorem bI_n0 {b : Bool} : ¬ bI b = 0 ↔ b = true := by cases b <;> decide
/-! steps with numbers that are known naturals -/
theorem xn_iadd {a b : Nat} (hd : decode M.2.1 pc = .ok (.iadd, 1)) (k : XW M d (pc + 1) l (.int (nI (a + b)) :: rest) g Q) : XW M d pc l (.int (nI b) :: .int (nI a) :: rest) g Q := xw_iadd hd (by rw [nI_add]; exact k)
theorem xn_imul {a b : Nat} (hd : decode M.2.1 pc = .ok (.imul, 1)) (k : XW M d (pc + 1) l (.int (nI (a * b)) :: rest) g Q) : XW M d pc l (.int (nI b) :: .int (nI a) :: rest) g Q := xw_imul hd (by rw [nI_mul]; exact k)
theorem xn_isub {a b : Nat} (hd : decode M.2.1 pc = .ok (.isub, 1)) (h : b ≤ a) (k : XW M d (pc + 1) l (.int (nI (a - b)) :: rest) g Q) : XW M d pc l (.int (nI b) :: .int (nI a) :: rest) g Q := xw_isub hd (by rw [nI_sub h]; exact k)
theorem xn_iconst {n : Nat} (hd : decode M.2.1 pc = .ok (.iconst n, 1)) (k : XW M d (pc + 1) l (.int (nI n) :: rest) g Q) : XW M d pc l rest g Q := xw_iconst (v := nI n) hd rfl k
theorem nI_B {n : Nat} (h : n < 128) : (Int8.ofInt (n : Int)).toInt32 = nI n := by
  have : ∀ n : Fin 128, (Int8.ofInt ((n : Nat) : Int)).toInt32 = nI n := by decide +kernel
  exact this ⟨n, h⟩
end X9
