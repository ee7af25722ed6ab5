/-! CORE 4: fields, arrays, new cells, statics, constants, casts -/
set_option maxRecDepth 100000
def xsub (k t : Nat) : Bool := if k = 90 then t == 6 || t == 7 else if k = 91 then t == 10 || (t == 11 || (t == 12 || t == 13)) else t == k
theorem xcl_ok : ∀ (k : Nat) (q : vw_C), xcl[k]? = some q → (∀ w ∈ u_ws q.1 q.2.1 q.2.2, w ∈ lw_all) ∧ (∀ j, j < q.2.2 → parseFieldDescriptor (q.2.1 j).2.2.1 = some (xcty k j)) ∧ (∀ a, a < q.2.2 → ∀ b, b < q.2.2 → a ≠ b → (q.2.1 a).2.1 ≠ (q.2.1 b).2.1) := by
  intro k q hq
  match k, hq with
  | 0, hq => cases hq; exact ⟨in_X1, tyX1_ok, nmX1⟩
  | 1, hq => cases hq; exact ⟨in_X2, tyX2_ok, nmX2⟩
  | 2, hq => cases hq; exact ⟨in_X3, tyX3_ok, nmX3⟩
  | 3, hq => cases hq; exact ⟨in_X5, tyX5_ok, nmX5⟩
  | 4, hq => cases hq; exact ⟨in_X6, tyX6_ok, nmX6⟩
  | 5, hq => cases hq; exact ⟨in_X8, tyX8_ok, nmX8⟩
  | 6, hq => cases hq; exact ⟨in_X9, tyX9_ok, nmX9⟩
  | 7, hq => cases hq; exact ⟨in_X10, tyX10_ok, nmX10⟩
  | 8, hq => cases hq; exact ⟨in_X11, tyX11_ok, nmX11⟩
  | 9, hq => cases hq; exact ⟨in_X13, tyX13_ok, nmX13⟩
  | 10, hq => cases hq; exact ⟨in_X14, tyX14_ok, nmX14⟩
  | 11, hq => cases hq; exact ⟨in_X15, tyX15_ok, nmX15⟩
  | 12, hq => cases hq; exact ⟨in_X16, tyX16_ok, nmX16⟩
  | 13, hq => cases hq; exact ⟨in_X17, tyX17_ok, nmX17⟩
  | 14, hq => cases hq; exact ⟨in_X18, tyX18_ok, nmX18⟩
  | 15, hq => cases hq; exact ⟨in_X19, tyX19_ok, nmX19⟩
  | 16, hq => cases hq; exact ⟨in_X20, tyX20_ok, nmX20⟩
  | 17, hq => cases hq; exact ⟨in_J2, tyJ2_ok, nmJ2⟩
  | 18, hq => cases hq; exact ⟨in_J8, tyJ8_ok, nmJ8⟩
  | 19, hq => cases hq; exact ⟨in_J9, tyJ9_ok, nmJ9⟩
  | 20, hq => cases hq; exact ⟨in_J18, tyJ18_ok, nmJ18⟩
  | 21, hq => cases hq; exact ⟨in_J6, tyJ6_ok, nmJ6⟩
  | 22, hq => cases hq; exact ⟨in_J19, tyJ19_ok, nmJ19⟩
  | 23, hq => cases hq; exact ⟨in_J22, tyJ22_ok, nmJ22⟩
  | 24, hq => cases hq; exact ⟨in_J23, tyJ23_ok, nmJ23⟩
  | 25, hq => cases hq; exact ⟨in_J24, tyJ24_ok, nmJ24⟩
  | 26, hq => cases hq; exact ⟨in_J25, tyJ25_ok, nmJ25⟩
  | k + 27, hq => simp [xcl] at hq
/-- the field j of objects of kind kk, as the pool entry idx of the class own names it -/
def xFld (own : String) (idx kk j : Nat) (ty : FieldType) : Prop := ∃ (ref nm ds : String), (Cond.fieldLink own idx ref nm ds ∈ lw_all ∨ ∃ host, Cond.fieldLinkNest own idx ref nm ds host ∈ lw_tbl) ∧
  ∀ t, xsub kk t = true → ∃ (C : String) (T : u_T) (N : Nat), 0 < t ∧ t < 60 ∧ xcl[t - 1]? = some (C, T, N) ∧ j < N ∧ j < xmin t ∧ (T j).2.1 = nm ∧ (T j).2.2.1 = ds ∧ xcty (t - 1) j = ty ∧ ((T j).1 = ref ∨ Cond.sameField ref (T j).1 nm ds ∈ lw_all)
/-- .. may be written: not final, or in the declarer's constructor -/
def xFin (M : xM) (kk j : Nat) : Prop := ∀ t, xsub kk t = true → ∀ (C : String) (T : u_T) (N : Nat), xcl[t - 1]? = some (C, T, N) → (T j).2.2.2 = false ∨ ((T j).2.2.2 = true ∧ M.1.name = "<init>" ∧ (T j).1 = M.1.cls)
section X4
variable {M : xM} {d pc : Nat} {l : List (Nat × Value)} {rest : List Value} {g : xG} {Q : Option Value ⊕ Nat → xG → Prop}
/-- a walk's step that reads the heap -/
theorem xw_read {pc' : Nat} {st st' : List Value}
    (h : ∀ (p : Program) (L : Launch) (e : Env) (R : Room) (s : State) (m : MethodId) (args : Array Value) (below : List Frame) (meth : Method) (c : Code) (H : Heap) (locs : List Loc) (cells slots : Nat) (Qf : State → Prop) (ls : Array Slot), xC M p L s m args meth c (xE g) → xR g H → va_S (xF (xE g)) s.heap H locs → lv_has ls M.2.2.1 l → xloc d ≤ R.locals → d ≤ R.frames →
      W p L e R s m args below meth c H locs cells slots Qf (F0 m pc' ls st') → W p L e R s m args below meth c H locs cells slots Qf (F0 m pc ls st))
    (k : XW M d pc' l st' g Q) : XW M d pc l st g Q := by
  obtain ⟨rs, g', hQ, hm, hr⟩ := k
  refine ⟨rs, g', hQ, hm, ?_⟩
  intro p L e R s m args below meth c z0 H locs ls S
  obtain ⟨C, h1, h2, h3, h4, h5, h6, hR, hS, hl⟩ := S
  exact h p L e R s m args below meth c H locs _ _ _ ls C hR hS hl h4 h3 (hr p L e R s m args below meth c z0 H locs ls ⟨C, h1, h2, h3, h4, h5, h6, hR, hS, hl⟩)
/-- .. that writes the row of one old cell -/
theorem xw_write {pc' a : Nat} {c0 : xCell} {st st' : List Value}
    (h : ∀ (p : Program) (L : Launch) (e : Env) (R : Room) (s : State) (m : MethodId) (args : Array Value) (below : List Frame) (meth : Method) (c : Code) (H : Heap) (locs : List Loc) (cells slots : Nat) (Qf : State → Prop) (ls : Array Slot), xC M p L s m args meth c (xE g) → xR g H → lv_has ls M.2.2.1 l →
      (∀ (H' : Heap) (j : Nat), xAt (xE g) a c0 H' → (xE g).2.2.2.size ≤ a → H'.size = H.size → (∀ q : Nat, q ≠ a → H'[q]? = H[q]?) → W p L e R s m args below meth c H' (locs ++ [⟨a, j⟩]) cells slots Qf (F0 m pc' ls st')) → W p L e R s m args below meth c H locs cells slots Qf (F0 m pc ls st))
    (k : XW M d pc' l st' (xPut g a c0) Q) : XW M d pc l st g Q := by
  obtain ⟨rs, g', hQ, hm, hr⟩ := k
  refine ⟨rs, g', hQ, hm, ?_⟩
  intro p L e R s m args below meth c z0 H locs ls S
  obtain ⟨C, h1, h2, h3, h4, h5, h6, hR, hS, hl⟩ := S
  refine h p L e R s m args below meth c H locs _ _ _ ls C hR hl (fun H' j e1 e2 e3 e4 => ?_)
  refine hr p L e R s m args below meth c z0 H' _ ls ⟨C, h1, h2, h3, h4, h5, h6, ⟨e3.trans hR.1, by rw [e3]; exact hR.2.1, fun q hq => ?_, fun b => ?_⟩, hS.put e3 e4 e2, hl⟩
  · have hq' : q < (xE g).2.2.2.size := hq
    rw [e4 q (by omega)]
    exact hR.2.2.1 q hq'
  · by_cases hb : b = a
    · subst hb
      by_cases hlt : b < xsz g
      · rw [xc_put hlt]
        exact e1
      · refine Or.inl ?_
        unfold xc
        rw [if_neg (show ¬ b < xsz (xPut g b c0) from hlt)]
        rfl
    · rw [xc_putN hb]
      rcases hR.2.2.2 b with h0 | ⟨cell, q1, q2⟩
      · exact Or.inl h0
      · exact Or.inr ⟨cell, by rw [e4 b hb]; exact q1, q2⟩
/-- .. that makes a cell -/
theorem xw_make {pc' n : Nat} {c0 : xCell} {st st' : List Value}
    (h : ∀ (p : Program) (L : Launch) (e : Env) (R : Room) (s : State) (m : MethodId) (args : Array Value) (below : List Frame) (meth : Method) (c : Code) (H : Heap) (locs : List Loc) (cells slots : Nat) (Qf : State → Prop) (ls : Array Slot), xC M p L s m args meth c (xE g) → xR g H → lv_has ls M.2.2.1 l → cells + 1 ≤ R.cells → slots + n ≤ R.slots →
      (∀ H' : Heap, xAt (xE g) H.size c0 H' → H'.size = H.size + 1 → (∀ q : Nat, q < H.size → H'[q]? = H[q]?) → W p L e R s m args below meth c H' locs (cells + 1) (slots + n) Qf (F0 m pc' ls st')) → W p L e R s m args below meth c H locs cells slots Qf (F0 m pc ls st))
    (k : XW M d pc' l st' (xNew g c0 n) Q) : XW M d pc l st g Q := by
  obtain ⟨rs, g', hQ, hm, hr⟩ := k
  have hz : xsz (xNew g c0 n) = xsz g + 1 := rfl
  have hy : xsl (xNew g c0 n) = xsl g + n := rfl
  refine ⟨rs, g', hQ, ⟨hm.1, by have := hm.2.1; omega, by have := hm.2.2; omega⟩, ?_⟩
  intro p L e R s m args below meth c z0 H locs ls S
  obtain ⟨C, h1, h2, h3, h4, h5, h6, hR, hS, hl⟩ := S
  have hz1 : xsz g - s.heap.size + 1 = xsz (xNew g c0 n) - s.heap.size := by omega
  have hz2 : xsl g - z0 + n = xsl (xNew g c0 n) - z0 := by omega
  have z1 := hm.2.1
  have z2 := hm.2.2
  refine h p L e R s m args below meth c H locs _ _ _ ls C hR hl (by omega) (by omega) (fun H' e1 e3 e4 => ?_)
  rw [hz1, hz2]
  refine hr p L e R s m args below meth c z0 H' _ ls ⟨C, by omega, by omega, h3, h4, h5, h6, ⟨by rw [e3, hR.1]; exact hz.symm, by rw [e3]; exact Nat.le_succ_of_le hR.2.1, fun q hq => ?_, fun b => ?_⟩, ⟨by rw [e3]; exact Nat.le_succ_of_le hS.1, fun q q1 q2 => (e4 q (Nat.lt_of_lt_of_le q1 hS.1)).trans (hS.2.1 q q1 q2), hS.2.2⟩, hl⟩
  · rw [e4 q (Nat.lt_of_lt_of_le hq hR.2.1)]
    exact hR.2.2.1 q hq
  · by_cases hb : b = H.size
    · subst hb
      rw [hR.1, xc_new]
      rw [hR.1] at e1
      exact e1
    · rw [xc_newN (by rw [← hR.1]; exact hb)]
      rcases hR.2.2.2 b with h0 | ⟨cell, q1, q2⟩
      · exact Or.inl h0
      · have hb1 : b < H.size := (Array.getElem?_eq_some_iff.mp q1).1
        exact Or.inr ⟨cell, by rw [e4 b hb1]; exact q1, q2⟩
theorem xw_link {own ref nm ds : String} {idx : Nat} {ty : FieldType} {kk j : Nat} (F : xFld own idx kk j ty) {t : Nat} (ht : xsub kk t = true) {p : Program} {L : Launch} {s : State} {m : MethodId} {args : Array Value} {meth : Method} {c : Code} {E : xEnv} (C : xC M p L s m args meth c E) : True := trivial
/-- getfield -/
theorem xw_get {idx kk j a : Nat} {ty : FieldType} (F : xFld M.1.cls idx kk j ty) (hd : decode M.2.1 pc = .ok (.getfield idx, 3)) (ht : xsub kk (xtag g a) = true) (k : XW M d (pc + 3) l (xval ty (xc g a) j :: rest) g Q) : XW M d pc l (.ref a :: rest) g Q := by
  refine xw_read (fun p L e R s m args below meth c H locs cells slots Qf ls C hR hS hl _ _ kk9 => ?_) k
  obtain ⟨hx, hb, -, -, hown, hts, -, -, -, -, hK, -⟩ := C
  obtain ⟨ref, nm, ds, hlink, hF⟩ := F
  obtain ⟨Cn, T, N, h0, h60, hc, hj, hjm, e1, e2, e3, hsm⟩ := hF _ ht
  obtain ⟨hin, hpar, hnm⟩ := xcl_ok _ _ hc
  rcases hR.2.2.2 a with hz | ⟨cell, q1, q2, q3, q4, q5, q6, q7, q8⟩
  · exact absurd hz (Nat.ne_of_gt h0)
  · obtain ⟨hS1, hfc, kC, hkC, hkind⟩ := hK.1 _ _ hc
    obtain ⟨cf, kf, fi, f, hi, hsl⟩ := hS1 j hj
    have hfa := (u_facts hfc hkC (u_lays hts hin hj) hi).1
    have hsame : s.fieldFound? ref nm ds = some (cf, kf, fi, f) := by
      have h1 : s.fieldFound? (T j).1 nm ds = some (cf, kf, fi, f) := by rw [← e1, ← e2]; exact hi
      rcases hsm with q | q
      · rw [← q]; exact h1
      · exact u_same (hts _ q) _ h1
    have hv : cell.slots[f.slot]? = some (xval ty (xc g a) j) := by
      have h9 := q8 j (Nat.lt_of_lt_of_le hjm (q6 h60).2)
      have e4 : xix (xE g) (xc g a).1 j = f.slot := by rw [hsl]; exact if_pos h60
      have e5 : xty (xc g a).1 j = ty := by rw [← e3]; exact if_pos h60
      rw [e4, e5] at h9
      exact h9
    rcases hlink with hlk | ⟨host, hlk⟩
    · exact W.getf hx hb hown (hts _ hlk) hsame hfa q1 q2 hv rfl rfl hd kk9
    · exact va_Wgetf hx hb hown (va_Nw.use rfl (hK.2.2.2.1 _ hlk (Or.inl ⟨_, _, _, _, _, _, rfl⟩))) hsame hfa q1 q2 hv rfl rfl hd kk9
theorem xw_getI {idx kk j a : Nat} {ty : FieldType} (F : xFld M.1.cls idx kk j ty) (hd : decode M.2.1 pc = .ok (.getfield idx, 3)) (ht : xsub kk (xtag g a) = true) (k : XW M d (pc + 3) l (.int (xi g a j) :: rest) g Q) (hty : xval ty = (fun c j => .int (c.2.2.2.1 j)) := by rfl) : XW M d pc l (.ref a :: rest) g Q :=
  xw_get F hd ht (by rw [hty]; exact k)
theorem xw_getR {idx kk j a : Nat} {ty : FieldType} (F : xFld M.1.cls idx kk j ty) (hd : decode M.2.1 pc = .ok (.getfield idx, 3)) (ht : xsub kk (xtag g a) = true) (k : XW M d (pc + 3) l (xref (xr g a j) :: rest) g Q) (hty : xval ty = (fun c j => xref (c.2.2.2.2.1 j)) := by rfl) : XW M d pc l (.ref a :: rest) g Q :=
  xw_get F hd ht (by rw [hty]; exact k)
theorem xw_getS {idx kk j a b : Nat} {ty : FieldType} (F : xFld M.1.cls idx kk j ty) (hd : decode M.2.1 pc = .ok (.getfield idx, 3)) (ht : xsub kk (xtag g a) = true) (hr : xr g a j = some b) (k : XW M d (pc + 3) l (.ref b :: rest) g Q) (hty : xval ty = (fun c j => xref (c.2.2.2.2.1 j)) := by rfl) : XW M d pc l (.ref a :: rest) g Q :=
  xw_getR F hd ht (by rw [hr]; exact k) hty
theorem xw_getN {idx kk j a : Nat} {ty : FieldType} (F : xFld M.1.cls idx kk j ty) (hd : decode M.2.1 pc = .ok (.getfield idx, 3)) (ht : xsub kk (xtag g a) = true) (hr : xr g a j = none) (k : XW M d (pc + 3) l (.null :: rest) g Q) (hty : xval ty = (fun c j => xref (c.2.2.2.2.1 j)) := by rfl) : XW M d pc l (.ref a :: rest) g Q :=
  xw_getR F hd ht (by rw [hr]; exact k) hty
/-- putfield: the row's new content c0 holds v at j, and what was there elsewhere -/
theorem xw_put {idx kk j a : Nat} {ty : FieldType} {v : Value} {c0 : xCell} (F : xFld M.1.cls idx kk j ty) (hfin : xFin M kk j) (hd : decode M.2.1 pc = .ok (.putfield idx, 3)) (ht : xsub kk (xtag g a) = true) (ho : xown g a ≠ 0)
    (h1 : c0.1 = (xc g a).1) (h2 : c0.2.1 = (xc g a).2.1) (h3 : c0.2.2.1 = (xc g a).2.2.1) (hv : xval ty c0 j = v) (hother : ∀ i, i ≠ j → ∀ ty', xval ty' c0 i = xval ty' (xc g a) i) (hn : narrow ty v = v) (hfit : fits ty v = true)
    (k : XW M d (pc + 3) l rest (xPut g a c0) Q) : XW M d pc l (v :: .ref a :: rest) g Q := by
  refine xw_write (fun p L e R s m args below meth c H locs cells slots Qf ls C hR hl kk9 => ?_) k
  obtain ⟨hx, hb, -, -, hown, hts, -, hname, -, -, hK, -⟩ := C
  obtain ⟨ref, nm, ds, hlink, hF⟩ := F
  obtain ⟨Cn, T, N, h0, h60, hc, hj, hjm, e1, e2, e3, hsm⟩ := hF _ ht
  obtain ⟨hin, hpar, hnm⟩ := xcl_ok _ _ hc
  rcases hR.2.2.2 a with hz | ⟨cell, q1, q2, q3, q4, q5, q6, q7, q8⟩
  · exact absurd hz (Nat.ne_of_gt h0)
  · have hKn := hK.1 _ _ hc
    have hKn' := hKn
    obtain ⟨hS1, hfc, kC, hkC, hkind⟩ := hKn
    obtain ⟨cf, kf, fi, f, hi, hsl⟩ := hS1 j hj
    have hfa := (u_facts hfc hkC (u_lays hts hin hj) hi).1
    have hsame : s.fieldFound? ref nm ds = some (cf, kf, fi, f) := by
      have h1 : s.fieldFound? (T j).1 nm ds = some (cf, kf, fi, f) := by rw [← e1, ← e2]; exact hi
      rcases hsm with q | q
      · rw [← q]; exact h1
      · exact u_same (hts _ q) _ h1
    obtain ⟨hvm, hbase⟩ := q4 ho
    have hcls : cell.cls = (xE g).1.1 (xtag g a - 1) := by rw [q5]; exact if_pos h60
    have hjl : j < (xc g a).2.2.1 := Nat.lt_of_lt_of_le hjm (q6 h60).2
    have e4 : ∀ i, xix (xE g) (xc g a).1 i = (xE g).1.2 (xtag g a - 1) i := fun i => if_pos h60
    have e5 : ∀ i, xty (xc g a).1 i = xcty (xtag g a - 1) i := fun i => if_pos h60
    have hslot : cell.slots[f.slot]? = some (xval ty (xc g a) j) := by
      have h9 := q8 j hjl
      rw [e4, e5, ← hsl, e3] at h9
      exact h9
    have hpd : parseFieldDescriptor (T j).2.2.1 = some ty := by rw [hpar j hj, e3]
    have happ : ∀ x y, x < N → y < N → x ≠ y → (xE g).1.2 (xtag g a - 1) x ≠ (xE g).1.2 (xtag g a - 1) y := by
      intro x y hx9 hy9 hne
      obtain ⟨_, _, _, fa, hia, ea⟩ := hS1 x hx9
      obtain ⟨_, _, _, fb, hib, eb⟩ := hS1 y hy9
      rw [← ea, ← eb]
      refine u_apart (u_lays hts hin hx9) (u_lays hts hin hy9) hia hib ?_
      rw [(State.fieldFound?_type hia (hpar x hx9)).1, (State.fieldFound?_type hib (hpar y hy9)).1]
      exact hnm x hx9 y hy9 hne
    have hfd : (hasFlag f.accessFlags Acc.final = false ∨ (m.cls = cf ∧ meth.name = "<init>")) ∧ narrow f.type v = v ∧ s.fitsSlot cell.cls cell.vm f.slot v = true := by
      have hlay := hts _ (hin _ (u_in_lay hj))
      have hs6 := u_fits (s := s) (args := args) hfc hkC hkind (u_lays hts hin hj) hi hpd hn hfit
      refine ⟨?_, hs6.1, by rw [hvm, hcls]; exact hs6.2⟩
      rcases hfin _ ht _ _ _ hc with hf | ⟨hf, hin2, hdecl⟩
      · unfold u_lay at hlay
        rw [if_neg (by rw [hf]; decide)] at hlay
        exact Or.inl (u_store hfc hkC hkind hlay hi hpd hn hfit).1
      · unfold u_lay at hlay
        rw [if_pos hf] at hlay
        obtain ⟨_, _, c', _, _, _, -, -, hf', -, -, -, hown2, -⟩ := Cond.laysFinal_spec hlay
        have e9 : c' = cf := by have := hi.symm.trans hf'; simp at this; exact this.1.symm
        rw [hdecl] at hown2
        exact Or.inr ⟨by rw [← e9]; exact Option.some.inj (hown.symm.trans hown2), hname.1.trans hin2⟩
    have hlt : f.slot < cell.slots.size := (Array.getElem?_eq_some_iff.mp hslot).1
    have ha : a < H.size := (Array.getElem?_eq_some_iff.mp q1).1
    have hAt : xAt (xE g) a c0 (H.setIfInBounds a (cell.setSlot f.slot v)) := by
      refine Or.inr ⟨cell.setSlot f.slot v, by simp [ha], q2, q3, by rw [h2]; exact q4, by rw [h1]; exact q5, by rw [h1, h3]; exact q6, fun h100 => by rw [h1] at h100; exact absurd h60 (by have : xtag g a = (xc g a).1 := rfl; omega), fun i hi9 => ?_⟩
      rw [h3] at hi9
      rw [h1, e4, e5]
      have hiN : i < N := by
        have h8 := (q6 h60).1
        have e8 : xN (xtag g a) = N := by unfold xN; rw [hc]
        have e10 : xN (xc g a).1 = N := e8
        omega
      by_cases hij : i = j
      · subst hij
        rw [e3, hv, ← hsl]
        exact Cell.slots_setSlot_self _ hlt
      · rw [hother i hij, slot_ne _ _ (show f.slot ≠ _ from by rw [hsl]; exact fun e => happ j i hj hiN (fun q => hij q.symm) e)]
        have h9 := q8 i hi9
        rw [e4, e5] at h9
        exact h9
    have k9 : W p L e R s m args below meth c (H.setIfInBounds a (cell.setSlot f.slot v)) (locs ++ [⟨a, f.slot⟩]) cells slots Qf (F0 m (pc + 3) ls rest) :=
      kk9 _ f.slot hAt hbase (by simp) (fun q hq => by rw [Array.getElem?_setIfInBounds_ne (Ne.symm hq)])
    rcases hlink with hlk | ⟨host, hlk⟩
    · exact W.putf hx hb hown (hts _ hlk) hsame hfa hfd.1 q1 q2 hlt hfd.2.1 hfd.2.2 rfl rfl hd k9
    · exact va_Wputf hx hb hown (va_Nw.use rfl (hK.2.2.2.1 _ hlk (Or.inl ⟨_, _, _, _, _, _, rfl⟩))) hsame hfa hfd.1 q1 q2 hlt hfd.2.1 hfd.2.2 rfl rfl hd k9
theorem xval_I {c : xCell} {j i : Nat} {x : Int32} (h : i ≠ j) (ty : FieldType) : xval ty (xcI c (xup c.2.2.2.1 j x)) i = xval ty c i := by
  have e : xup c.2.2.2.1 j x i = c.2.2.2.1 i := if_neg h
  cases ty <;> simp only [xval, xcI, e]
theorem xval_R {c : xCell} {j i : Nat} {x : Option Nat} (h : i ≠ j) (ty : FieldType) : xval ty (xcR c (xup c.2.2.2.2.1 j x)) i = xval ty c i := by
  have e : xup c.2.2.2.2.1 j x i = c.2.2.2.2.1 i := if_neg h
  cases ty <;> simp only [xval, xcR, e]
theorem xval_W {c : xCell} {j i : Nat} {x : UInt64} (h : i ≠ j) (ty : FieldType) : xval ty (xcW c (xup c.2.2.2.2.2 j x)) i = xval ty c i := by
  have e : xup c.2.2.2.2.2 j x i = c.2.2.2.2.2 i := if_neg h
  cases ty <;> simp only [xval, xcW, e]
theorem xw_putI {idx kk j a : Nat} {ty : FieldType} {x : Int32} (F : xFld M.1.cls idx kk j ty) (hfin : xFin M kk j) (hd : decode M.2.1 pc = .ok (.putfield idx, 3)) (ht : xsub kk (xtag g a) = true) (ho : xown g a ≠ 0) (k : XW M d (pc + 3) l rest (xsetI g a j x) Q)
    (hn : narrow ty (.int x) = .int x := by rfl) (hfit : fits ty (.int x) = true := by rfl) (hty : xval ty = (fun c j => .int (c.2.2.2.1 j)) := by rfl) : XW M d pc l (.int x :: .ref a :: rest) g Q :=
  xw_put (c0 := xcI (xc g a) (xup (xc g a).2.2.2.1 j x)) F hfin hd ht ho rfl rfl rfl (by rw [hty]; simp [xcI, xup]) (fun i hi ty' => xval_I hi ty') hn hfit k
theorem xw_putR {idx kk j a : Nat} {ty : FieldType} {o : Option Nat} {v : Value} (F : xFld M.1.cls idx kk j ty) (hfin : xFin M kk j) (hd : decode M.2.1 pc = .ok (.putfield idx, 3)) (ht : xsub kk (xtag g a) = true) (ho : xown g a ≠ 0) (hv : xref o = v) (k : XW M d (pc + 3) l rest (xsetR g a j o) Q)
    (hty : ty.isReference = true := by rfl) : XW M d pc l (v :: .ref a :: rest) g Q := by
  subst hv
  refine xw_put (c0 := xcR (xc g a) (xup (xc g a).2.2.2.2.1 j o)) F hfin hd ht ho rfl rfl rfl ?_ (fun i hi ty' => xval_R hi ty') ?_ ?_ k
  · cases ty <;> first | (cases hty; done) | simp [xval, xcR, xup]
  · cases ty <;> first | (cases hty; done) | (cases o <;> rfl)
  · cases ty <;> first | (cases hty; done) | (cases o <;> rfl)
end X4
