/-! CORE 5: arrays, new cells, statics, constants, casts -/
set_option maxRecDepth 100000
theorem x_arrOf {s : State} {cA : ClassId} {ty : FieldType} (h : ArrOfT s cA ty) {cell : Cell} (hc : cell.cls = cA) (hv : cell.vm.isStatics = false) : s.isArrayOf cell ty := by
  obtain ⟨-, k, hk, comp, hkind⟩ := h 0 (fun _ => .null)
  exact ⟨fun q e => (by rw [e] at hv; cases hv), k, by rw [hc]; exact hk, comp, hkind⟩
theorem x_def (ty : FieldType) (t o n j : Nat) : xval ty (xBlank t o n) j = defaultValue ty := by cases ty <;> rfl
theorem x_nI {n : Nat} : n.toInt32 = nI n := rfl
section X5
variable {M : xM} {d pc : Nat} {l : List (Nat × Value)} {rest : List Value} {g : xG} {Q : Option Value ⊕ Nat → xG → Prop}
/-- an array of kind q: what its row says -/
theorem x_arr {q : Nat} (hq : q < 14) {a : Nat} {s : State} {H : Heap} (hK : xK (xE g) s) (hR : xR g H) (ht : xtag g a = 101 + q) : ∃ cell : Cell, H[a]? = some cell ∧ cell.vm ≠ .unknown ∧ cell.vm.isStatics = false ∧ (xown g a ≠ 0 → cell.vm = .none ∧ (xE g).2.2.2.size ≤ a) ∧ cell.cls = (xE g).2.1 (101 + q) ∧ s.isArrayOf cell (xak q) ∧ cell.slots.size = xlen g a ∧ xlen g a < 2 ^ 31 ∧ (∀ j, j < xlen g a → fits (xak q) (xval (xak q) (xc g a) j) = true) ∧ ∀ j, j < xlen g a → cell.slots[j]? = some (xval (xak q) (xc g a) j) := by
  have ht' : (xc g a).1 = 101 + q := ht
  rcases hR.2.2.2 a with hz | ⟨cell, q1, q2, q3, q4, q5, q6, q7, q8⟩
  · omega
  · obtain ⟨z1, z2, z3⟩ := q7 (by omega)
    have e1 : ∀ j, xty (xc g a).1 j = xak q := by
      intro j
      rw [ht']
      unfold xty
      rw [if_neg (by omega), if_neg (by omega)]
      congr 1
      omega
    have e2 : ∀ j, xix (xE g) (xc g a).1 j = j := by
      intro j
      rw [ht']
      exact if_neg (by omega)
    have e3 : xcid (xE g) (xc g a).1 = (xE g).2.1 (101 + q) := by
      rw [ht']
      exact if_neg (by omega)
    refine ⟨cell, q1, q2, q3, q4, q5.trans e3, x_arrOf (hK.2.1 q hq).1 (q5.trans e3) q3, z1, z2, fun j hj => ?_, fun j hj => ?_⟩
    · have h := z3 j hj
      rw [e1] at h
      exact h
    · have h := q8 j hj
      rw [e1, e2] at h
      exact h
/-- the row of an array with other contents -/
theorem x_arrAt {q a : Nat} {c0 : xCell} {cell : Cell} {H' : Heap} {j : Nat} {v : Value} (ht : xtag g a = 101 + q) (h1 : c0.1 = (xc g a).1) (h2 : c0.2.1 = (xc g a).2.1) (h3 : c0.2.2.1 = (xc g a).2.2.1) (hv : xval (xak q) c0 j = v) (hother : ∀ i, i ≠ j → ∀ ty', xval ty' c0 i = xval ty' (xc g a) i) (hfit : fits (xak q) v = true) (hj : j < xlen g a)
    (e1 : H'[a]? = some (cell.setSlot j v)) (q2 : cell.vm ≠ .unknown) (q3 : cell.vm.isStatics = false) (q4 : xown g a ≠ 0 → cell.vm = .none ∧ (xE g).2.2.2.size ≤ a) (q5 : cell.cls = (xE g).2.1 (101 + q)) (z1 : cell.slots.size = xlen g a) (z2 : xlen g a < 2 ^ 31)
    (z3 : ∀ j, j < xlen g a → fits (xak q) (xval (xak q) (xc g a) j) = true) (z4 : ∀ j, j < xlen g a → cell.slots[j]? = some (xval (xak q) (xc g a) j)) : xAt (xE g) a c0 H' := by
  have ht' : (xc g a).1 = 101 + q := ht
  have f1 : ∀ j, xty c0.1 j = xak q := by
    intro j
    rw [h1, ht']
    unfold xty
    rw [if_neg (by omega), if_neg (by omega)]
    congr 1
    omega
  have f2 : ∀ j, xix (xE g) c0.1 j = j := by
    intro j
    rw [h1, ht']
    exact if_neg (by omega)
  have f3 : xcid (xE g) c0.1 = (xE g).2.1 (101 + q) := by
    rw [h1, ht']
    exact if_neg (by omega)
  refine Or.inr ⟨cell.setSlot j v, e1, q2, q3, by rw [h2]; exact q4, by rw [f3]; exact q5, fun h60 => by rw [h1, ht'] at h60; omega, fun _ => ⟨?_, by rw [h3]; exact z2, fun i hi => ?_⟩, fun i hi => ?_⟩
  · rw [h3]
    show (cell.setSlot j v).slots.size = _
    rw [← show cell.slots.size = (xc g a).2.2.1 from z1]
    simp [Cell.setSlot]
  · rw [h3] at hi
    rw [f1]
    by_cases hij : i = j
    · subst hij
      rw [hv]
      exact hfit
    · rw [hother i hij]
      exact z3 i hi
  · rw [h3] at hi
    rw [f1, f2]
    by_cases hij : i = j
    · subst hij
      rw [hv]
      exact Cell.slots_setSlot_self _ (by rw [z1]; exact hj)
    · rw [hother i hij, slot_ne _ _ (fun e => hij e.symm)]
      exact z4 i hi
theorem x_idx {i : Int32} {n k : Nat} (hi : i = nI k) (hk : k < n) (hn : n < 2 ^ 31) : ¬ (i < 0 ∨ n ≤ i.toNatClampNeg) ∧ i.toNatClampNeg = k := by
  subst hi
  exact ⟨nI_in hk hn, nI_clamp (by omega)⟩
theorem xw_iald {a k : Nat} {i : Int32} (hd : decode M.2.1 pc = .ok (.iaload, 1)) (ht : xtag g a = 101) (hi : i = nI k) (hk : k < xlen g a) (kk : XW M d (pc + 1) l (.int (xi g a k) :: rest) g Q) : XW M d pc l (.int i :: .ref a :: rest) g Q := by
  refine xw_read (fun p L e R s m args below meth c H locs cells slots Qf ls C hR hS hl _ _ kk9 => ?_) kk
  obtain ⟨cell, q1, q2, q3, q4, q5, qA, z1, z2, z3, z4⟩ := x_arr (q := 0) (by decide) C.2.2.2.2.2.2.2.2.2.2.1 hR ht
  obtain ⟨y1, y2⟩ := x_idx hi hk z2
  exact W.iald C.1 C.2.1 q1 qA q2 (by rw [z1]; exact y1) (by rw [y2]; exact z4 k hk) rfl rfl hd kk9
theorem xw_zald {a k : Nat} {i : Int32} (hd : decode M.2.1 pc = .ok (.baload, 1)) (ht : xtag g a = 102) (hi : i = nI k) (hk : k < xlen g a) (kk : XW M d (pc + 1) l (.int (xi g a k) :: rest) g Q) : XW M d pc l (.int i :: .ref a :: rest) g Q := by
  refine xw_read (fun p L e R s m args below meth c H locs cells slots Qf ls C hR hS hl _ _ kk9 => ?_) kk
  obtain ⟨cell, q1, q2, q3, q4, q5, qA, z1, z2, z3, z4⟩ := x_arr (q := 1) (by decide) C.2.2.2.2.2.2.2.2.2.2.1 hR ht
  obtain ⟨y1, y2⟩ := x_idx hi hk z2
  exact W.zald C.1 C.2.1 q1 qA q2 (by rw [z1]; exact y1) (by rw [y2]; exact z4 k hk) rfl rfl hd kk9
theorem xw_bald {a k : Nat} {i : Int32} (hd : decode M.2.1 pc = .ok (.baload, 1)) (ht : xtag g a = 103) (hi : i = nI k) (hk : k < xlen g a) (kk : XW M d (pc + 1) l (.int (xi g a k) :: rest) g Q) : XW M d pc l (.int i :: .ref a :: rest) g Q := by
  refine xw_read (fun p L e R s m args below meth c H locs cells slots Qf ls C hR hS hl _ _ kk9 => ?_) kk
  obtain ⟨cell, q1, q2, q3, q4, q5, qA, z1, z2, z3, z4⟩ := x_arr (q := 2) (by decide) C.2.2.2.2.2.2.2.2.2.2.1 hR ht
  obtain ⟨y1, y2⟩ := x_idx hi hk z2
  exact W.bald C.1 C.2.1 q1 qA q2 (by rw [z1]; exact y1) (by rw [y2]; exact z4 k hk) rfl rfl hd kk9
theorem xw_cald {a k : Nat} {i : Int32} (hd : decode M.2.1 pc = .ok (.caload, 1)) (ht : xtag g a = 104) (hi : i = nI k) (hk : k < xlen g a) (kk : XW M d (pc + 1) l (.int (xi g a k) :: rest) g Q) : XW M d pc l (.int i :: .ref a :: rest) g Q := by
  refine xw_read (fun p L e R s m args below meth c H locs cells slots Qf ls C hR hS hl _ _ kk9 => ?_) kk
  obtain ⟨cell, q1, q2, q3, q4, q5, qA, z1, z2, z3, z4⟩ := x_arr (q := 3) (by decide) C.2.2.2.2.2.2.2.2.2.2.1 hR ht
  obtain ⟨y1, y2⟩ := x_idx hi hk z2
  exact W.cald C.1 C.2.1 q1 qA q2 (by rw [z1]; exact y1) (by rw [y2]; exact z4 k hk) rfl rfl hd kk9
theorem xw_fald {a k : Nat} {i : Int32} (hd : decode M.2.1 pc = .ok (.faload, 1)) (ht : xtag g a = 105) (hi : i = nI k) (hk : k < xlen g a) (kk : XW M d (pc + 1) l (.float (xi g a k).toUInt32 :: rest) g Q) : XW M d pc l (.int i :: .ref a :: rest) g Q := by
  refine xw_read (fun p L e R s m args below meth c H locs cells slots Qf ls C hR hS hl _ _ kk9 => ?_) kk
  obtain ⟨cell, q1, q2, q3, q4, q5, qA, z1, z2, z3, z4⟩ := x_arr (q := 4) (by decide) C.2.2.2.2.2.2.2.2.2.2.1 hR ht
  obtain ⟨y1, y2⟩ := x_idx hi hk z2
  exact W.fald C.1 C.2.1 q1 qA q2 (by rw [z1]; exact y1) (by rw [y2]; exact z4 k hk) rfl rfl hd kk9
theorem xw_lald {a k : Nat} {i : Int32} (hd : decode M.2.1 pc = .ok (.laload, 1)) (ht : xtag g a = 106) (hi : i = nI k) (hk : k < xlen g a) (kk : XW M d (pc + 1) l (.long (xw g a k).toInt64 :: rest) g Q) : XW M d pc l (.int i :: .ref a :: rest) g Q := by
  refine xw_read (fun p L e R s m args below meth c H locs cells slots Qf ls C hR hS hl _ _ kk9 => ?_) kk
  obtain ⟨cell, q1, q2, q3, q4, q5, qA, z1, z2, z3, z4⟩ := x_arr (q := 5) (by decide) C.2.2.2.2.2.2.2.2.2.2.1 hR ht
  obtain ⟨y1, y2⟩ := x_idx hi hk z2
  exact W.lald C.1 C.2.1 q1 qA q2 (by rw [z1]; exact y1) (by rw [y2]; exact z4 k hk) rfl rfl hd kk9
theorem xw_dald {a k : Nat} {i : Int32} (hd : decode M.2.1 pc = .ok (.daload, 1)) (ht : xtag g a = 107) (hi : i = nI k) (hk : k < xlen g a) (kk : XW M d (pc + 1) l (.double (xw g a k) :: rest) g Q) : XW M d pc l (.int i :: .ref a :: rest) g Q := by
  refine xw_read (fun p L e R s m args below meth c H locs cells slots Qf ls C hR hS hl _ _ kk9 => ?_) kk
  obtain ⟨cell, q1, q2, q3, q4, q5, qA, z1, z2, z3, z4⟩ := x_arr (q := 6) (by decide) C.2.2.2.2.2.2.2.2.2.2.1 hR ht
  obtain ⟨y1, y2⟩ := x_idx hi hk z2
  exact W.dald C.1 C.2.1 q1 qA q2 (by rw [z1]; exact y1) (by rw [y2]; exact z4 k hk) rfl rfl hd kk9
theorem x_ak7 {q : Nat} (h : 7 ≤ q) (h2 : q < 14) : q = 7 ∨ q = 8 ∨ q = 9 ∨ q = 10 ∨ q = 11 ∨ q = 12 ∨ q = 13 := by omega
theorem x_akref {q : Nat} (h : 7 ≤ q) (h2 : q < 14) : (xak q).isReference = true := by
  rcases x_ak7 h h2 with rfl | rfl | rfl | rfl | rfl | rfl | rfl <;> rfl
theorem x_akval {q : Nat} (h : 7 ≤ q) (h2 : q < 14) {c : xCell} {j : Nat} : xval (xak q) c j = xref (c.2.2.2.2.1 j) := by
  rcases x_ak7 h h2 with rfl | rfl | rfl | rfl | rfl | rfl | rfl <;> rfl
/-- an array of references, of a class's objects -/
theorem xw_aald {a k q : Nat} {i : Int32} (hd : decode M.2.1 pc = .ok (.aaload, 1)) (ht : xtag g a = 101 + q) (hq : q < 14) (hq7 : 7 ≤ q) (hi : i = nI k) (hk : k < xlen g a) (kk : XW M d (pc + 1) l (xref (xr g a k) :: rest) g Q) : XW M d pc l (.int i :: .ref a :: rest) g Q := by
  refine xw_read (fun p L e R s m args below meth c H locs cells slots Qf ls C hR hS hl _ _ kk9 => ?_) kk
  obtain ⟨cell, q1, q2, q3, q4, q5, qA, z1, z2, z3, z4⟩ := x_arr (q := q) hq C.2.2.2.2.2.2.2.2.2.2.1 hR ht
  obtain ⟨y1, y2⟩ := x_idx hi hk z2
  have hv : cell.slots[k]? = some (xref (xr g a k)) := by
    rw [z4 k hk, x_akval hq7 hq]
    rfl
  exact W.aald C.1 C.2.1 q1 qA (x_akref hq7 hq) q2 (by rw [z1]; exact y1) (by rw [y2]; exact hv) rfl rfl hd kk9
theorem xw_iast {a k : Nat} {i : Int32} {x : Int32} (hd : decode M.2.1 pc = .ok (.iastore, 1)) (ht : xtag g a = 101) (ho : xown g a ≠ 0) (hi : i = nI k) (hk : k < xlen g a) (kk : XW M d (pc + 1) l rest (xsetI g a k (x)) Q) : XW M d pc l (.int x :: .int i :: .ref a :: rest) g Q := by
  refine xw_write (c0 := xcI (xc g a) (xup (xc g a).2.2.2.1 k (x))) (fun p L e R s m args below meth c H locs cells slots Qf ls C hR hl kk9 => ?_) kk
  obtain ⟨cell, q1, q2, q3, q4, q5, qA, z1, z2, z3, z4⟩ := x_arr (q := 0) (by decide) C.2.2.2.2.2.2.2.2.2.2.1 hR ht
  obtain ⟨y1, y2⟩ := x_idx hi hk z2
  refine W.iast C.1 C.2.1 q1 qA q2 (by rw [z1]; exact y1) rfl rfl hd (fun H' e1 e2 e3 => ?_)
  · rw [y2] at e1 ⊢
    exact kk9 H' _ (x_arrAt (q := 0) (v := .int x) ht rfl rfl rfl (by simp [xval, xcI, xup, xak]) (fun i hi ty' => xval_I hi ty') (rfl) hk e1 q2 q3 q4 q5 z1 z2 z3 z4) (q4 ho).2 e2 e3
theorem xw_bast {a k : Nat} {i : Int32} {x : Int32} (hd : decode M.2.1 pc = .ok (.bastore, 1)) (ht : xtag g a = 103) (ho : xown g a ≠ 0) (hi : i = nI k) (hk : k < xlen g a) (kk : XW M d (pc + 1) l rest (xsetI g a k (x.toInt8.toInt32)) Q) : XW M d pc l (.int x :: .int i :: .ref a :: rest) g Q := by
  refine xw_write (c0 := xcI (xc g a) (xup (xc g a).2.2.2.1 k (x.toInt8.toInt32))) (fun p L e R s m args below meth c H locs cells slots Qf ls C hR hl kk9 => ?_) kk
  obtain ⟨cell, q1, q2, q3, q4, q5, qA, z1, z2, z3, z4⟩ := x_arr (q := 2) (by decide) C.2.2.2.2.2.2.2.2.2.2.1 hR ht
  obtain ⟨y1, y2⟩ := x_idx hi hk z2
  refine W.bast C.1 C.2.1 q1 qA q2 (by rw [z1]; exact y1) rfl rfl hd (fun H' e1 e2 e3 => ?_)
  · rw [y2] at e1 ⊢
    exact kk9 H' _ (x_arrAt (q := 2) (v := .int x.toInt8.toInt32) ht rfl rfl rfl (by simp [xval, xcI, xup, xak]) (fun i hi ty' => xval_I hi ty') (pk_fb _) hk e1 q2 q3 q4 q5 z1 z2 z3 z4) (q4 ho).2 e2 e3
theorem xw_cast {a k : Nat} {i : Int32} {x : Int32} (hd : decode M.2.1 pc = .ok (.castore, 1)) (ht : xtag g a = 104) (ho : xown g a ≠ 0) (hi : i = nI k) (hk : k < xlen g a) (hx : narrow .char (.int x) = .int x) (hf : fits .char (.int x) = true) (kk : XW M d (pc + 1) l rest (xsetI g a k (x)) Q) : XW M d pc l (.int x :: .int i :: .ref a :: rest) g Q := by
  refine xw_write (c0 := xcI (xc g a) (xup (xc g a).2.2.2.1 k (x))) (fun p L e R s m args below meth c H locs cells slots Qf ls C hR hl kk9 => ?_) kk
  obtain ⟨cell, q1, q2, q3, q4, q5, qA, z1, z2, z3, z4⟩ := x_arr (q := 3) (by decide) C.2.2.2.2.2.2.2.2.2.2.1 hR ht
  obtain ⟨y1, y2⟩ := x_idx hi hk z2
  refine W.cast C.1 C.2.1 q1 qA q2 (by rw [z1]; exact y1) rfl rfl hd (fun H' e1 e2 e3 => ?_)
  · rw [y2] at e1 ⊢
    rw [hx] at e1
    exact kk9 H' _ (x_arrAt (q := 3) (v := .int x) ht rfl rfl rfl (by simp [xval, xcI, xup, xak]) (fun i hi ty' => xval_I hi ty') (hf) hk e1 q2 q3 q4 q5 z1 z2 z3 z4) (q4 ho).2 e2 e3
theorem xw_zast {a k : Nat} {i : Int32} {x : Int32} (hd : decode M.2.1 pc = .ok (.bastore, 1)) (ht : xtag g a = 102) (ho : xown g a ≠ 0) (hi : i = nI k) (hk : k < xlen g a) (hx : narrow .boolean (.int x) = .int x) (hf : fits .boolean (.int x) = true) (kk : XW M d (pc + 1) l rest (xsetI g a k (x)) Q) : XW M d pc l (.int x :: .int i :: .ref a :: rest) g Q := by
  refine xw_write (c0 := xcI (xc g a) (xup (xc g a).2.2.2.1 k (x))) (fun p L e R s m args below meth c H locs cells slots Qf ls C hR hl kk9 => ?_) kk
  obtain ⟨cell, q1, q2, q3, q4, q5, qA, z1, z2, z3, z4⟩ := x_arr (q := 1) (by decide) C.2.2.2.2.2.2.2.2.2.2.1 hR ht
  obtain ⟨y1, y2⟩ := x_idx hi hk z2
  refine W.zast C.1 C.2.1 q1 qA q2 (by rw [z1]; exact y1) rfl rfl hd (fun H' e1 e2 e3 => ?_)
  · rw [y2] at e1 ⊢
    rw [hx] at e1
    exact kk9 H' _ (x_arrAt (q := 1) (v := .int x) ht rfl rfl rfl (by simp [xval, xcI, xup, xak]) (fun i hi ty' => xval_I hi ty') (hf) hk e1 q2 q3 q4 q5 z1 z2 z3 z4) (q4 ho).2 e2 e3
theorem xw_fast {a k : Nat} {i : Int32} {x : UInt32} (hd : decode M.2.1 pc = .ok (.fastore, 1)) (ht : xtag g a = 105) (ho : xown g a ≠ 0) (hi : i = nI k) (hk : k < xlen g a) (kk : XW M d (pc + 1) l rest (xsetI g a k (x.toInt32)) Q) : XW M d pc l (.float x :: .int i :: .ref a :: rest) g Q := by
  refine xw_write (c0 := xcI (xc g a) (xup (xc g a).2.2.2.1 k (x.toInt32))) (fun p L e R s m args below meth c H locs cells slots Qf ls C hR hl kk9 => ?_) kk
  obtain ⟨cell, q1, q2, q3, q4, q5, qA, z1, z2, z3, z4⟩ := x_arr (q := 4) (by decide) C.2.2.2.2.2.2.2.2.2.2.1 hR ht
  obtain ⟨y1, y2⟩ := x_idx hi hk z2
  refine W.fast C.1 C.2.1 q1 qA q2 (by rw [z1]; exact y1) rfl rfl hd (fun H' e1 e2 e3 => ?_)
  · rw [y2] at e1 ⊢
    exact kk9 H' _ (x_arrAt (q := 4) (v := .float x) ht rfl rfl rfl (by simp [xval, xcI, xup, xak]) (fun i hi ty' => xval_I hi ty') (rfl) hk e1 q2 q3 q4 q5 z1 z2 z3 z4) (q4 ho).2 e2 e3
theorem xw_last {a k : Nat} {i : Int32} {x : Int64} (hd : decode M.2.1 pc = .ok (.lastore, 1)) (ht : xtag g a = 106) (ho : xown g a ≠ 0) (hi : i = nI k) (hk : k < xlen g a) (kk : XW M d (pc + 1) l rest (xsetW g a k (x.toUInt64)) Q) : XW M d pc l (.long x :: .int i :: .ref a :: rest) g Q := by
  refine xw_write (c0 := xcW (xc g a) (xup (xc g a).2.2.2.2.2 k (x.toUInt64))) (fun p L e R s m args below meth c H locs cells slots Qf ls C hR hl kk9 => ?_) kk
  obtain ⟨cell, q1, q2, q3, q4, q5, qA, z1, z2, z3, z4⟩ := x_arr (q := 5) (by decide) C.2.2.2.2.2.2.2.2.2.2.1 hR ht
  obtain ⟨y1, y2⟩ := x_idx hi hk z2
  refine W.last C.1 C.2.1 q1 qA q2 (by rw [z1]; exact y1) rfl rfl hd (fun H' e1 e2 e3 => ?_)
  · rw [y2] at e1 ⊢
    exact kk9 H' _ (x_arrAt (q := 5) (v := .long x) ht rfl rfl rfl (by simp [xval, xcW, xup, xak]) (fun i hi ty' => xval_W hi ty') (rfl) hk e1 q2 q3 q4 q5 z1 z2 z3 z4) (q4 ho).2 e2 e3
theorem xw_dast {a k : Nat} {i : Int32} {x : UInt64} (hd : decode M.2.1 pc = .ok (.dastore, 1)) (ht : xtag g a = 107) (ho : xown g a ≠ 0) (hi : i = nI k) (hk : k < xlen g a) (kk : XW M d (pc + 1) l rest (xsetW g a k (x)) Q) : XW M d pc l (.double x :: .int i :: .ref a :: rest) g Q := by
  refine xw_write (c0 := xcW (xc g a) (xup (xc g a).2.2.2.2.2 k (x))) (fun p L e R s m args below meth c H locs cells slots Qf ls C hR hl kk9 => ?_) kk
  obtain ⟨cell, q1, q2, q3, q4, q5, qA, z1, z2, z3, z4⟩ := x_arr (q := 6) (by decide) C.2.2.2.2.2.2.2.2.2.2.1 hR ht
  obtain ⟨y1, y2⟩ := x_idx hi hk z2
  refine W.dast C.1 C.2.1 q1 qA q2 (by rw [z1]; exact y1) rfl rfl hd (fun H' e1 e2 e3 => ?_)
  · rw [y2] at e1 ⊢
    exact kk9 H' _ (x_arrAt (q := 6) (v := .double x) ht rfl rfl rfl (by simp [xval, xcW, xup, xak]) (fun i hi ty' => xval_W hi ty') (rfl) hk e1 q2 q3 q4 q5 z1 z2 z3 z4) (q4 ho).2 e2 e3
/-- arraylength -/
theorem xw_alen {a q : Nat} (hd : decode M.2.1 pc = .ok (.arraylength, 1)) (ht : xtag g a = 101 + q) (hq : q < 14) (kk : XW M d (pc + 1) l (.int (nI (xlen g a)) :: rest) g Q) : XW M d pc l (.ref a :: rest) g Q := by
  refine xw_read (fun p L e R s m args below meth c H locs cells slots Qf ls C hR hS hl _ _ kk9 => ?_) kk
  obtain ⟨cell, q1, q2, q3, q4, q5, qA, z1, z2, z3, z4⟩ := x_arr (q := q) hq C.2.2.2.2.2.2.2.2.2.2.1 hR ht
  exact W.alen C.1 C.2.1 q1 qA (by rw [z1]; rfl) rfl rfl hd kk9
theorem x_lenlt {a q : Nat} {s : State} {H : Heap} (hq : q < 14) (hK : xK (xE g) s) (hR : xR g H) (ht : xtag g a = 101 + q) : xlen g a < 2 ^ 31 := by
  obtain ⟨cell, q1, q2, q3, q4, q5, qA, z1, z2, z3, z4⟩ := x_arr (q := q) hq hK hR ht
  exact z2
/-- what the class of a cell is called, for calls and casts -/
def xnm (t : Nat) : String := if t < 60 then xcn t else if t = 61 then "PolicyNotation$Effect$1" else if t = 62 then "PolicyNotation$Effect$2" else "PolicyNotation$Effect$3"
theorem x_obj {a : Nat} {s : State} {H : Heap} (hK : xK (xE g) s) (hR : xR g H) (h0 : 0 < xtag g a) (h60 : xtag g a < 28) : ∃ cell : Cell, H[a]? = some cell ∧ cell.vm.isStatics = false ∧ s.vm.findClass (xnm (xtag g a)) = some cell.cls := by
  rcases hR.2.2.2 a with hz | ⟨cell, q1, q2, q3, q4, q5, q6, q7, q8⟩
  · exact absurd hz (Nat.ne_of_gt h0)
  · refine ⟨cell, q1, q3, ?_⟩
    have h6 : (xc g a).1 < 60 := by have : xtag g a = (xc g a).1 := rfl; omega
    have hlen : xtag g a - 1 < xcl.length := by
      show xtag g a - 1 < 27
      omega
    have hq : xcl[xtag g a - 1]? = some xcl[xtag g a - 1] := List.getElem?_eq_getElem hlen
    have hn : xnm (xtag g a) = (xcl[xtag g a - 1]).1 := by
      unfold xnm
      rw [if_pos (by omega)]
      unfold xcn
      rw [hq]
    rw [hn, q5]
    have e : xcid (xE g) (xc g a).1 = (xE g).1.1 (xtag g a - 1) := if_pos h6
    rw [e]
    exact (hK.1 _ _ hq).2.1
theorem x_con {a : Nat} {s : State} {H : Heap} (hK : xK (xE g) s) (hR : xR g H) (ht : xtag g a = 61 ∨ xtag g a = 62 ∨ xtag g a = 63) : ∃ cell : Cell, H[a]? = some cell ∧ cell.vm.isStatics = false ∧ s.vm.findClass (xnm (xtag g a)) = some cell.cls := by
  have ht' : xtag g a = (xc g a).1 := rfl
  rcases hR.2.2.2 a with hz | ⟨cell, q1, q2, q3, q4, q5, q6, q7, q8⟩
  · omega
  · refine ⟨cell, q1, q3, ?_⟩
    have e : xcid (xE g) (xc g a).1 = (xE g).2.1 (xtag g a) := if_neg (by omega)
    rw [q5, e]
    rcases ht with h | h | h <;> rw [h]
    · exact hK.2.2.1 (61, "PolicyNotation$Effect$1") (by simp [xkn])
    · exact hK.2.2.1 (62, "PolicyNotation$Effect$2") (by simp [xkn])
    · exact hK.2.2.1 (63, "PolicyNotation$Effect$3") (by simp [xkn])
def xcls (t : Nat) : Bool := (decide (0 < t) && decide (t < 28)) || (t == 61 || (t == 62 || t == 63))
theorem x_any {a : Nat} {s : State} {H : Heap} (hK : xK (xE g) s) (hR : xR g H) (ht : xcls (xtag g a) = true) : ∃ cell : Cell, H[a]? = some cell ∧ cell.vm.isStatics = false ∧ s.vm.findClass (xnm (xtag g a)) = some cell.cls := by
  simp only [xcls, Bool.or_eq_true, Bool.and_eq_true, decide_eq_true_eq, beq_iff_eq] at ht
  rcases ht with ⟨h1, h2⟩ | h
  · exact x_obj hK hR h1 h2
  · exact x_con hK hR h
/-- checkcast of an object: its class goes by nm, the cast's -/
theorem xw_chk {a ix : Nat} {nm : String} (hd : decode M.2.1 pc = .ok (.checkcast ix, 3)) (hk : Cond.classLink M.1.cls ix nm ∈ lw_all) (ht : xcls (xtag g a) = true) (hc : Cond.castable (xnm (xtag g a)) nm ∈ lw_tbl) (kk : XW M d (pc + 3) l (.ref a :: rest) g Q) : XW M d pc l (.ref a :: rest) g Q := by
  refine xw_read (fun p L e R s m args below meth c H locs cells slots Qf ls C hR hS hl _ _ kk9 => ?_) kk
  have hK := C.2.2.2.2.2.2.2.2.2.2.1
  exact va_castY C.1 C.2.1 C.2.2.2.2.1 (C.2.2.2.2.2.1 _ hk) (hK.2.2.2.1 _ hc (Or.inr (Or.inr (Or.inl ⟨_, _, rfl⟩)))) (x_any hK hR ht) hd kk9
theorem xw_instY {a ix : Nat} {nm : String} (hd : decode M.2.1 pc = .ok (.instanceof ix, 3)) (hk : Cond.classLink M.1.cls ix nm ∈ lw_all) (ht : xcls (xtag g a) = true) (hc : Cond.castable (xnm (xtag g a)) nm ∈ lw_tbl) (kk : XW M d (pc + 3) l (.int 1 :: rest) g Q) : XW M d pc l (.ref a :: rest) g Q := by
  refine xw_read (fun p L e R s m args below meth c H locs cells slots Qf ls C hR hS hl _ _ kk9 => ?_) kk
  have hK := C.2.2.2.2.2.2.2.2.2.2.1
  exact va_instY C.1 C.2.1 C.2.2.2.2.1 (C.2.2.2.2.2.1 _ hk) (hK.2.2.2.1 _ hc (Or.inr (Or.inr (Or.inl ⟨_, _, rfl⟩)))) (x_any hK hR ht) hd kk9
theorem xw_instNo {a ix : Nat} {nm : String} (hd : decode M.2.1 pc = .ok (.instanceof ix, 3)) (hk : Cond.classLink M.1.cls ix nm ∈ lw_all) (ht : xcls (xtag g a) = true) (hc : (xnm (xtag g a), nm) ∈ xnc) (kk : XW M d (pc + 3) l (.int 0 :: rest) g Q) : XW M d pc l (.ref a :: rest) g Q := by
  refine xw_read (fun p L e R s m args below meth c H locs cells slots Qf ls C hR hS hl _ _ kk9 => ?_) kk
  have hK := C.2.2.2.2.2.2.2.2.2.2.1
  exact va_instNo C.1 C.2.1 C.2.2.2.2.1 (C.2.2.2.2.2.1 _ hk) (hK.2.2.2.2.1 _ hc) (x_any hK hR ht) hd kk9
/-- checkcast of an array -/
theorem xw_chkA {a ix q : Nat} {nm : String} (hd : decode M.2.1 pc = .ok (.checkcast ix, 3)) (hk : Cond.classLink M.1.cls ix nm ∈ lw_all) (ht : xtag g a = 101 + q) (hq : q < 14) (hnm : ∀ (s : State), xK (xE g) s → s.vm.findClass nm = some ((xE g).2.1 (101 + q))) (kk : XW M d (pc + 3) l (.ref a :: rest) g Q) : XW M d pc l (.ref a :: rest) g Q := by
  refine xw_read (fun p L e R s m args below meth c H locs cells slots Qf ls C hR hS hl _ _ kk9 => ?_) kk
  have hK := C.2.2.2.2.2.2.2.2.2.2.1
  obtain ⟨cell, q1, q2, q3, q4, q5, qA, z1, z2, z3, z4⟩ := x_arr (q := q) hq hK hR ht
  intro T hT X
  obtain ⟨vm', X', st⟩ := X.checkcastYes C.1 C.2.2.2.2.1 (C.2.2.2.2.2.1 _ hk) (by rw [hT]; exact q1) q3 (hnm s hK) (by rw [q5]; exact va_asg _ _) (g := F0 m pc ls (.ref a :: rest)) rfl rfl (by rw [C.2.1]; exact hd)
  obtain ⟨t, a1, b1⟩ := kk9 (T.setVm vm') hT X'
  exact ⟨t, st t a1, b1⟩
theorem x_nmF {E : xEnv} (s : State) (h : xK E s) : s.vm.findClass "[F" = some (E.2.1 105) := va_nm_float (h.2.1 4 (by decide)).2
theorem x_nmB {E : xEnv} (s : State) (h : xK E s) : s.vm.findClass "[B" = some (E.2.1 103) := va_nm_byte (h.2.1 2 (by decide)).2
theorem x_nmO {E : xEnv} (s : State) (h : xK E s) : s.vm.findClass "[Ljava/lang/Object;" = some (E.2.1 108) := va_nmO (h.2.1 7 (by decide)).2 (by decide +kernel)
/-- new: an object of the class at place t - 1; o: its owner (ghost) -/
theorem xw_new {ix n t N : Nat} {C : String} {T : u_T} (o : Nat) (hd : decode M.2.1 pc = .ok (.new ix, 3)) (hc : xcl[t - 1]? = some (C, T, N)) (h0 : 0 < t) (ho : o ≠ 0) (hk : Cond.classLink M.1.cls ix C ∈ lw_all) (hi : Cond.instantiable C n ∈ lw_all) (hini : Cond.initialized C ∈ lw_all) (kk : XW M d (pc + 3) l (.ref (xsz g) :: rest) (xNew g (xBlank t o N) n) Q) : XW M d pc l rest g Q := by
  refine xw_make (fun p L e R s m args below meth c H locs cells slots Qf ls Cx hR hl hc1 hc2 kk9 => ?_) kk
  have hK := Cx.2.2.2.2.2.2.2.2.2.2.1
  have hts := Cx.2.2.2.2.2.1
  obtain ⟨hin, hpar, hnm⟩ := xcl_ok _ _ hc
  have hKn := hK.1 _ _ hc
  have hlen : t - 1 < xcl.length := (List.getElem?_eq_some_iff.mp hc).1
  have hlen' : t - 1 < 27 := hlen
  refine W.newcK Cx.1 Cx.2.1 Cx.2.2.2.2.1 (hts _ hk) (hts _ hi) (hts _ hini) rfl hd hc1 hc2 hKn.2.1 rfl fun H1 kC hkC e1 z1 o1 => ?_
  have hb := u_born (o := H.size) (xcty (t - 1)) hts hin hKn hkC e1 hpar
  obtain ⟨cell, b1, b2, b3, b4⟩ := hb
  have hN : xN t = N := by unfold xN; rw [hc]
  rw [← hR.1] at kk9
  refine kk9 H1 (Or.inr ⟨cell, b1, by rw [b3]; exact fun h => (by cases h), by rw [b3]; rfl, fun _ => ⟨b3, hR.2.1⟩, ?_, fun _ => ⟨Nat.le_of_eq hN.symm, ?_⟩, fun h => absurd h (by show ¬ 100 ≤ t; omega), fun j hj => ?_⟩) z1 o1
  · rw [b2]
    exact (if_pos (show t < 60 by omega)).symm
  · show xmin t ≤ N
    unfold xmin
    split
    · rename_i h20
      subst h20
      have h9 := Option.some.inj hc
      have : N = 4 := by
        have := congrArg (fun z : vw_C => z.2.2) h9
        exact this.symm
      omega
    · split
      · exact Nat.zero_le _
      · exact Nat.le_of_eq hN
  · have hj' : j < N := hj
    have e2 : xix (xE g) t j = (xE g).1.2 (t - 1) j := if_pos (by omega)
    have e3 : xty t j = xcty (t - 1) j := if_pos (by omega)
    show cell.slots[xix (xE g) t j]? = some (xval (xty t j) (xBlank t o N) j)
    rw [e2, e3, b4 j hj']
    exact congrArg some (x_def _ t o N j).symm

theorem xw_newa_int {n : Nat} {i : Int32} (o : Nat) (hd : decode M.2.1 pc = .ok (.newarray .int, 2)) (hq : Cond.arrayClass .int ∈ lw_all) (ho : o ≠ 0) (hi : i = nI n) (hn : n ≤ 60000000) (kk : XW M d (pc + 2) l (.ref (xsz g) :: rest) (xNew g (xBlank 101 o n) n) Q) : XW M d pc l (.int i :: rest) g Q := by
  refine xw_make (fun p L e R s m args below meth c H locs cells slots Qf ls Cx hR hl hc1 hc2 kk9 => ?_) kk
  have hK := Cx.2.2.2.2.2.2.2.2.2.2.1
  subst hi
  refine va_newaK (N := n) (atype := .int) Cx.1 Cx.2.1 (Cx.2.2.2.2.2.1 _ hq) rfl hd rfl (nI_pos (by omega)) (nI_clamp (by omega)) (by show n * 4 ≤ 536870912; omega) hc1 hc2 rfl (fun H' cA e1 z1 o1 hAr hf => ?_)
  have hcA : cA = (xE g).2.1 101 := Option.some.inj (hf.symm.trans (hK.2.1 0 (by decide)).2)
  rw [← hR.1] at kk9
  refine kk9 H' (Or.inr ⟨_, e1, fun h => (by cases h), rfl, fun _ => ⟨rfl, hR.2.1⟩, ?_, fun h => absurd h (by show ¬ 101 < 60; decide), fun _ => ⟨arrV_size _ _ _, by show n < 2 ^ 31; omega, fun j hj => rfl⟩, fun j hj => ?_⟩) z1 o1
  · show cA = xcid (xE g) 101
    rw [hcA]
    rfl
  · have hj' : j < n := hj
    show (arrV cA n _).slots[j]? = _
    rw [arrV_read _ _ hj']
    rfl
theorem xw_newa_boolean {n : Nat} {i : Int32} (o : Nat) (hd : decode M.2.1 pc = .ok (.newarray .boolean, 2)) (hq : Cond.arrayClass .boolean ∈ lw_all) (ho : o ≠ 0) (hi : i = nI n) (hn : n ≤ 60000000) (kk : XW M d (pc + 2) l (.ref (xsz g) :: rest) (xNew g (xBlank 102 o n) n) Q) : XW M d pc l (.int i :: rest) g Q := by
  refine xw_make (fun p L e R s m args below meth c H locs cells slots Qf ls Cx hR hl hc1 hc2 kk9 => ?_) kk
  have hK := Cx.2.2.2.2.2.2.2.2.2.2.1
  subst hi
  refine va_newaK (N := n) (atype := .boolean) Cx.1 Cx.2.1 (Cx.2.2.2.2.2.1 _ hq) rfl hd rfl (nI_pos (by omega)) (nI_clamp (by omega)) (by show n * 1 ≤ 536870912; omega) hc1 hc2 rfl (fun H' cA e1 z1 o1 hAr hf => ?_)
  have hcA : cA = (xE g).2.1 102 := Option.some.inj (hf.symm.trans (hK.2.1 1 (by decide)).2)
  rw [← hR.1] at kk9
  refine kk9 H' (Or.inr ⟨_, e1, fun h => (by cases h), rfl, fun _ => ⟨rfl, hR.2.1⟩, ?_, fun h => absurd h (by show ¬ 102 < 60; decide), fun _ => ⟨arrV_size _ _ _, by show n < 2 ^ 31; omega, fun j hj => rfl⟩, fun j hj => ?_⟩) z1 o1
  · show cA = xcid (xE g) 102
    rw [hcA]
    rfl
  · have hj' : j < n := hj
    show (arrV cA n _).slots[j]? = _
    rw [arrV_read _ _ hj']
    rfl
theorem xw_newa_byte {n : Nat} {i : Int32} (o : Nat) (hd : decode M.2.1 pc = .ok (.newarray .byte, 2)) (hq : Cond.arrayClass .byte ∈ lw_all) (ho : o ≠ 0) (hi : i = nI n) (hn : n ≤ 60000000) (kk : XW M d (pc + 2) l (.ref (xsz g) :: rest) (xNew g (xBlank 103 o n) n) Q) : XW M d pc l (.int i :: rest) g Q := by
  refine xw_make (fun p L e R s m args below meth c H locs cells slots Qf ls Cx hR hl hc1 hc2 kk9 => ?_) kk
  have hK := Cx.2.2.2.2.2.2.2.2.2.2.1
  subst hi
  refine va_newaK (N := n) (atype := .byte) Cx.1 Cx.2.1 (Cx.2.2.2.2.2.1 _ hq) rfl hd rfl (nI_pos (by omega)) (nI_clamp (by omega)) (by show n * 1 ≤ 536870912; omega) hc1 hc2 rfl (fun H' cA e1 z1 o1 hAr hf => ?_)
  have hcA : cA = (xE g).2.1 103 := Option.some.inj (hf.symm.trans (hK.2.1 2 (by decide)).2)
  rw [← hR.1] at kk9
  refine kk9 H' (Or.inr ⟨_, e1, fun h => (by cases h), rfl, fun _ => ⟨rfl, hR.2.1⟩, ?_, fun h => absurd h (by show ¬ 103 < 60; decide), fun _ => ⟨arrV_size _ _ _, by show n < 2 ^ 31; omega, fun j hj => rfl⟩, fun j hj => ?_⟩) z1 o1
  · show cA = xcid (xE g) 103
    rw [hcA]
    rfl
  · have hj' : j < n := hj
    show (arrV cA n _).slots[j]? = _
    rw [arrV_read _ _ hj']
    rfl
theorem xw_newa_char {n : Nat} {i : Int32} (o : Nat) (hd : decode M.2.1 pc = .ok (.newarray .char, 2)) (hq : Cond.arrayClass .char ∈ lw_all) (ho : o ≠ 0) (hi : i = nI n) (hn : n ≤ 60000000) (kk : XW M d (pc + 2) l (.ref (xsz g) :: rest) (xNew g (xBlank 104 o n) n) Q) : XW M d pc l (.int i :: rest) g Q := by
  refine xw_make (fun p L e R s m args below meth c H locs cells slots Qf ls Cx hR hl hc1 hc2 kk9 => ?_) kk
  have hK := Cx.2.2.2.2.2.2.2.2.2.2.1
  subst hi
  refine va_newaK (N := n) (atype := .char) Cx.1 Cx.2.1 (Cx.2.2.2.2.2.1 _ hq) rfl hd rfl (nI_pos (by omega)) (nI_clamp (by omega)) (by show n * 2 ≤ 536870912; omega) hc1 hc2 rfl (fun H' cA e1 z1 o1 hAr hf => ?_)
  have hcA : cA = (xE g).2.1 104 := Option.some.inj (hf.symm.trans (hK.2.1 3 (by decide)).2)
  rw [← hR.1] at kk9
  refine kk9 H' (Or.inr ⟨_, e1, fun h => (by cases h), rfl, fun _ => ⟨rfl, hR.2.1⟩, ?_, fun h => absurd h (by show ¬ 104 < 60; decide), fun _ => ⟨arrV_size _ _ _, by show n < 2 ^ 31; omega, fun j hj => rfl⟩, fun j hj => ?_⟩) z1 o1
  · show cA = xcid (xE g) 104
    rw [hcA]
    rfl
  · have hj' : j < n := hj
    show (arrV cA n _).slots[j]? = _
    rw [arrV_read _ _ hj']
    rfl
theorem xw_newa_float {n : Nat} {i : Int32} (o : Nat) (hd : decode M.2.1 pc = .ok (.newarray .float, 2)) (hq : Cond.arrayClass .float ∈ lw_all) (ho : o ≠ 0) (hi : i = nI n) (hn : n ≤ 60000000) (kk : XW M d (pc + 2) l (.ref (xsz g) :: rest) (xNew g (xBlank 105 o n) n) Q) : XW M d pc l (.int i :: rest) g Q := by
  refine xw_make (fun p L e R s m args below meth c H locs cells slots Qf ls Cx hR hl hc1 hc2 kk9 => ?_) kk
  have hK := Cx.2.2.2.2.2.2.2.2.2.2.1
  subst hi
  refine va_newaK (N := n) (atype := .float) Cx.1 Cx.2.1 (Cx.2.2.2.2.2.1 _ hq) rfl hd rfl (nI_pos (by omega)) (nI_clamp (by omega)) (by show n * 4 ≤ 536870912; omega) hc1 hc2 rfl (fun H' cA e1 z1 o1 hAr hf => ?_)
  have hcA : cA = (xE g).2.1 105 := Option.some.inj (hf.symm.trans (hK.2.1 4 (by decide)).2)
  rw [← hR.1] at kk9
  refine kk9 H' (Or.inr ⟨_, e1, fun h => (by cases h), rfl, fun _ => ⟨rfl, hR.2.1⟩, ?_, fun h => absurd h (by show ¬ 105 < 60; decide), fun _ => ⟨arrV_size _ _ _, by show n < 2 ^ 31; omega, fun j hj => rfl⟩, fun j hj => ?_⟩) z1 o1
  · show cA = xcid (xE g) 105
    rw [hcA]
    rfl
  · have hj' : j < n := hj
    show (arrV cA n _).slots[j]? = _
    rw [arrV_read _ _ hj']
    rfl
theorem xw_newa_long {n : Nat} {i : Int32} (o : Nat) (hd : decode M.2.1 pc = .ok (.newarray .long, 2)) (hq : Cond.arrayClass .long ∈ lw_all) (ho : o ≠ 0) (hi : i = nI n) (hn : n ≤ 60000000) (kk : XW M d (pc + 2) l (.ref (xsz g) :: rest) (xNew g (xBlank 106 o n) n) Q) : XW M d pc l (.int i :: rest) g Q := by
  refine xw_make (fun p L e R s m args below meth c H locs cells slots Qf ls Cx hR hl hc1 hc2 kk9 => ?_) kk
  have hK := Cx.2.2.2.2.2.2.2.2.2.2.1
  subst hi
  refine va_newaK (N := n) (atype := .long) Cx.1 Cx.2.1 (Cx.2.2.2.2.2.1 _ hq) rfl hd rfl (nI_pos (by omega)) (nI_clamp (by omega)) (by show n * 8 ≤ 536870912; omega) hc1 hc2 rfl (fun H' cA e1 z1 o1 hAr hf => ?_)
  have hcA : cA = (xE g).2.1 106 := Option.some.inj (hf.symm.trans (hK.2.1 5 (by decide)).2)
  rw [← hR.1] at kk9
  refine kk9 H' (Or.inr ⟨_, e1, fun h => (by cases h), rfl, fun _ => ⟨rfl, hR.2.1⟩, ?_, fun h => absurd h (by show ¬ 106 < 60; decide), fun _ => ⟨arrV_size _ _ _, by show n < 2 ^ 31; omega, fun j hj => rfl⟩, fun j hj => ?_⟩) z1 o1
  · show cA = xcid (xE g) 106
    rw [hcA]
    rfl
  · have hj' : j < n := hj
    show (arrV cA n _).slots[j]? = _
    rw [arrV_read _ _ hj']
    rfl
theorem xw_newa_double {n : Nat} {i : Int32} (o : Nat) (hd : decode M.2.1 pc = .ok (.newarray .double, 2)) (hq : Cond.arrayClass .double ∈ lw_all) (ho : o ≠ 0) (hi : i = nI n) (hn : n ≤ 60000000) (kk : XW M d (pc + 2) l (.ref (xsz g) :: rest) (xNew g (xBlank 107 o n) n) Q) : XW M d pc l (.int i :: rest) g Q := by
  refine xw_make (fun p L e R s m args below meth c H locs cells slots Qf ls Cx hR hl hc1 hc2 kk9 => ?_) kk
  have hK := Cx.2.2.2.2.2.2.2.2.2.2.1
  subst hi
  refine va_newaK (N := n) (atype := .double) Cx.1 Cx.2.1 (Cx.2.2.2.2.2.1 _ hq) rfl hd rfl (nI_pos (by omega)) (nI_clamp (by omega)) (by show n * 8 ≤ 536870912; omega) hc1 hc2 rfl (fun H' cA e1 z1 o1 hAr hf => ?_)
  have hcA : cA = (xE g).2.1 107 := Option.some.inj (hf.symm.trans (hK.2.1 6 (by decide)).2)
  rw [← hR.1] at kk9
  refine kk9 H' (Or.inr ⟨_, e1, fun h => (by cases h), rfl, fun _ => ⟨rfl, hR.2.1⟩, ?_, fun h => absurd h (by show ¬ 107 < 60; decide), fun _ => ⟨arrV_size _ _ _, by show n < 2 ^ 31; omega, fun j hj => rfl⟩, fun j hj => ?_⟩) z1 o1
  · show cA = xcid (xE g) 107
    rw [hcA]
    rfl
  · have hj' : j < n := hj
    show (arrV cA n _).slots[j]? = _
    rw [arrV_read _ _ hj']
    rfl
theorem xw_anew {ix n q : Nat} {i : Int32} {C : String} (o : Nat) (hd : decode M.2.1 pc = .ok (.anewarray ix, 3)) (hq : q < 14) (hq7 : 7 ≤ q) (hak : xak q = .object C) (hk : Cond.classLink M.1.cls ix C ∈ lw_all) (hov : C ∈ xao) (ho : o ≠ 0) (hi : i = nI n) (hn : n ≤ 60000000) (kk : XW M d (pc + 3) l (.ref (xsz g) :: rest) (xNew g (xBlank (101 + q) o n) n) Q) : XW M d pc l (.int i :: rest) g Q := by
  refine xw_make (fun p L e R s m args below meth c H locs cells slots Qf ls Cx hR hl hc1 hc2 kk9 => ?_) kk
  have hK := Cx.2.2.2.2.2.2.2.2.2.2.1
  subst hi
  have hcl : (nI n).toNatClampNeg = n := nI_clamp (by omega)
  refine W.anew Cx.1 Cx.2.1 Cx.2.2.2.2.1 (Cx.2.2.2.2.2.1 _ hk) (va_AO.use (hK.2.2.2.2.2.2.2.2.2.1.1 C hov)) rfl hd rfl (nI_pos (by omega)) (by rw [hcl]; omega) hc1 (by rw [hcl]; exact hc2) (fun cA kA comp f1 f2 f3 f4 => ?_)
  have hcA : cA = (xE g).2.1 (101 + q) := by
    have h := (hK.2.1 q hq).2
    rw [hak] at h
    obtain ⟨_, _, _, _, _, h4⟩ := h
    exact Option.some.inj (f1.symm.trans h4)
  rw [hcl]
  rw [← hR.1] at kk9
  refine kk9 _ (Or.inr ⟨{ cls := cA, slots := Array.replicate n .null, vm := .none }, by simp, fun h => (by cases h), rfl, fun _ => ⟨rfl, hR.2.1⟩, ?_, fun h => absurd h (by show ¬ 101 + q < 60; omega), fun _ => ⟨by show (Array.replicate n Value.null).size = n; simp, by show n < 2 ^ 31; omega, fun j hj => ?_⟩, fun j hj => ?_⟩) (by simp) (fun q hq => by rw [Array.getElem?_push, if_neg (Nat.ne_of_lt hq)])
  · show cA = xcid (xE g) (101 + q)
    rw [hcA]
    exact (if_neg (by omega)).symm
  · have e : xty (101 + q) j = .object C := by
      unfold xty
      rw [if_neg (by omega), if_neg (by omega), show 101 + q - 101 = q by omega, hak]
    show fits (xty (101 + q) j) (xval (xty (101 + q) j) (xBlank (101 + q) o n) j) = true
    rw [e]
    rfl
  · have hj' : j < n := hj
    have e : xty (101 + q) j = .object C := by
      unfold xty
      rw [if_neg (by omega), if_neg (by omega), show 101 + q - 101 = q by omega, hak]
    have e2 : xix (xE g) (101 + q) j = j := if_neg (by omega)
    show (Array.replicate n Value.null)[xix (xE g) (101 + q) j]? = some (xval (xty (101 + q) j) (xBlank (101 + q) o n) j)
    rw [e, e2]
    simp [hj', xval, xBlank, xref]
theorem xw_anewA {ix n : Nat} {i : Int32} (o : Nat) (hd : decode M.2.1 pc = .ok (.anewarray ix, 3)) (hk : Cond.classLink M.1.cls ix "[F" ∈ lw_all) (ho : o ≠ 0) (hi : i = nI n) (hn : n ≤ 60000000) (kk : XW M d (pc + 3) l (.ref (xsz g) :: rest) (xNew g (xBlank 114 o n) n) Q) : XW M d pc l (.int i :: rest) g Q := by
  refine xw_make (fun p L e R s m args below meth c H locs cells slots Qf ls Cx hR hl hc1 hc2 kk9 => ?_) kk
  have hK := Cx.2.2.2.2.2.2.2.2.2.2.1
  subst hi
  have hcl : (nI n).toNatClampNeg = n := nI_clamp (by omega)
  have e0 : (FieldType.array .float).toString = "[F" := by decide +kernel
  refine W.anewA (t := .float) Cx.1 Cx.2.1 Cx.2.2.2.2.1 (by rw [e0]; exact Cx.2.2.2.2.2.1 _ hk) (show (Cond.arrayOver (.array .float)).before args s = true from hK.2.2.2.2.2.2.2.2.2.1.2.1) rfl hd rfl (nI_pos (by omega)) (by rw [hcl]; omega) hc1 (by rw [hcl]; exact hc2) (fun cA kA comp f1 f2 f3 f4 => ?_)
  have hcA : cA = (xE g).2.1 114 := Option.some.inj (f1.symm.trans (hK.2.1 13 (by decide)).2)
  rw [hcl]
  rw [← hR.1] at kk9
  refine kk9 _ (Or.inr ⟨{ cls := cA, slots := Array.replicate n .null, vm := .none }, by simp, fun h => (by cases h), rfl, fun _ => ⟨rfl, hR.2.1⟩, ?_, fun h => absurd h (by show ¬ 114 < 60; decide), fun _ => ⟨by show (Array.replicate n Value.null).size = n; simp, by show n < 2 ^ 31; omega, fun j hj => rfl⟩, fun j hj => ?_⟩) (by simp) (fun q hq => by rw [Array.getElem?_push, if_neg (Nat.ne_of_lt hq)])
  · show cA = xcid (xE g) 114
    rw [hcA]
    rfl
  · have hj' : j < n := hj
    show (Array.replicate n Value.null)[j]? = some _
    simp [hj']
    rfl
/-- aastore of an object whose class goes by the element's -/
theorem xw_aast {a b k q : Nat} {i : Int32} {C : String} (hd : decode M.2.1 pc = .ok (.aastore, 1)) (ht : xtag g a = 101 + q) (hq : q < 14) (hq7 : 7 ≤ q) (hak : xak q = .object C) (ho : xown g a ≠ 0) (hi : i = nI k) (hk : k < xlen g a) (hb : xcls (xtag g b) = true) (hca : Cond.castable (xnm (xtag g b)) C ∈ lw_tbl) (kk : XW M d (pc + 1) l rest (xsetR g a k (some b)) Q) : XW M d pc l (.ref b :: .int i :: .ref a :: rest) g Q := by
  refine xw_write (c0 := xcR (xc g a) (xup (xc g a).2.2.2.2.1 k (some b))) (fun p L e R s m args below meth c H locs cells slots Qf ls Cx hR hl kk9 => ?_) kk
  have hK := Cx.2.2.2.2.2.2.2.2.2.2.1
  obtain ⟨cell, q1, q2, q3, q4, q5, qA, z1, z2, z3, z4⟩ := x_arr (q := q) hq hK hR ht
  obtain ⟨y1, y2⟩ := x_idx hi hk z2
  obtain ⟨cv, v1, v2, v3⟩ := x_any hK hR hb
  have hRA := (hK.2.1 q hq).2
  rw [hak] at hRA
  obtain ⟨kA, comp, f1, f2, f3, f4⟩ := hRA
  obtain ⟨c0, t0, w1, w2, w3⟩ := Cond.castable_spec (va_Nw.use (A := args) rfl (hK.2.2.2.1 _ hca (Or.inr (Or.inr (Or.inl ⟨_, _, rfl⟩)))))
  cases v3.symm.trans w1
  cases f3.symm.trans w2
  obtain ⟨kV, hkV, -⟩ := Vm.findClass_spec v3
  obtain ⟨kT, hkT, -⟩ := Vm.findClass_spec f3
  refine W.aast Cx.1 Cx.2.1 q1 (fun z h => by rw [h] at q3; cases q3) q2 (by rw [q5]; exact f1) f2 rfl hkT ⟨fun h => y1 (Or.inl h), by rw [z1, y2]; exact hk⟩ v1 (fun z h => by rw [h] at v2; cases v2) hkV w3 rfl rfl hd (fun H' e1 e2 e3 => ?_)
  rw [y2] at e1 ⊢
  exact kk9 H' _ (x_arrAt (q := q) (v := .ref b) ht rfl rfl rfl (by rw [hak]; simp [xval, xcR, xup, xref]) (fun i hi ty' => xval_R hi ty') (by rw [hak]; rfl) hk e1 q2 q3 q4 q5 z1 z2 z3 z4) (q4 ho).2 e2 e3
theorem xw_aastN {a k q : Nat} {i : Int32} {C : String} (hd : decode M.2.1 pc = .ok (.aastore, 1)) (ht : xtag g a = 101 + q) (hq : q < 14) (hq7 : 7 ≤ q) (hak : xak q = .object C) (ho : xown g a ≠ 0) (hi : i = nI k) (hk : k < xlen g a) (kk : XW M d (pc + 1) l rest (xsetR g a k none) Q) : XW M d pc l (.null :: .int i :: .ref a :: rest) g Q := by
  refine xw_write (c0 := xcR (xc g a) (xup (xc g a).2.2.2.2.1 k none)) (fun p L e R s m args below meth c H locs cells slots Qf ls Cx hR hl kk9 => ?_) kk
  have hK := Cx.2.2.2.2.2.2.2.2.2.2.1
  obtain ⟨cell, q1, q2, q3, q4, q5, qA, z1, z2, z3, z4⟩ := x_arr (q := q) hq hK hR ht
  obtain ⟨y1, y2⟩ := x_idx hi hk z2
  rw [hak] at qA
  refine va_WaastN Cx.1 Cx.2.1 q1 qA q2 (by rw [z1]; exact y1) rfl rfl hd (fun H' e1 e2 e3 => ?_)
  rw [y2] at e1 ⊢
  exact kk9 H' _ (x_arrAt (q := q) (v := .null) ht rfl rfl rfl (by rw [hak]; simp [xval, xcR, xup, xref]) (fun i hi ty' => xval_R hi ty') (by rw [hak]; rfl) hk e1 q2 q3 q4 q5 z1 z2 z3 z4) (q4 ho).2 e2 e3
/-- getstatic -/
theorem xw_gets {ix i : Nat} {C n ds : String} (hd : decode M.2.1 pc = .ok (.getstatic ix, 3)) (hi : xst[i]? = some (C, n, ds)) (hk : Cond.fieldLink M.1.cls ix C n ds ∈ lw_all) (kk : XW M d (pc + 3) l (xsv (xE g).2.2.1 i :: rest) g Q) : XW M d pc l rest g Q := by
  refine xw_read (fun p L e R s m args below meth c H locs cells slots Qf ls C hR hS hl _ _ kk9 => ?_) kk
  have hK := C.2.2.2.2.2.2.2.2.2.2.1
  have hZ := hK.2.2.2.2.2.1 _ _ hi
  have hst := C.2.2.2.2.2.2.2.2.2.2.2
  exact va_gets C.1 C.2.1 (va_Z.kept hZ (fun a h1 _ => hst.2 a h1)) hS C.2.2.2.2.1 (C.2.2.2.2.2.1 _ hk) (fun _ h => h) hd kk9
/-- ldc of a String -/
theorem xw_ldcS {ix i : Nat} {tx : String} (hd : decode M.2.1 pc = .ok (.ldc ix, 2)) (hi : xss[i]? = some (M.1.cls, ix, tx)) (kk : XW M d (pc + 2) l (.ref ((xE g).2.2.1 (10 + i)) :: rest) g Q) : XW M d pc l rest g Q := by
  refine xw_read (fun p L e R s m args below meth c H locs cells slots Qf ls C hR hS hl _ _ kk9 => ?_) kk
  have hK := C.2.2.2.2.2.2.2.2.2.2.1
  exact va_ldcS C.1 C.2.1 C.2.2.2.2.1 (hK.2.2.2.2.2.2.2.1 _ _ hi) hd kk9
end X5
