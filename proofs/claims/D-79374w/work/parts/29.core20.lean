/-! CORE 20: class objects; calls by an interface -/
set_option maxRecDepth 100000
section X20
variable {M M' : xM} {d pc : Nat} {l : List (Nat × Value)} {rest : List Value} {g : xG} {Q P : Option Value ⊕ Nat → xG → Prop} {st0 as : List Value}
theorem xw_getC {a idx : Nat} (hd : decode M.2.1 pc = .ok (.invokevirtual idx, 3)) (hl : Cond.methodLink M.1.cls idx ⟨"java/lang/Object", "getClass", "()Ljava/lang/Class;"⟩ ∈ lw_all) (ht : xtag g a = 108) (hr : (rest.map fun v => v.category).sum ≤ 8) (k : XW M (d + 1) (pc + 3) l (.ref ((xE g).2.2.1 7) :: rest) g Q) : XW M (d + 1) pc l (.ref a :: rest) g Q :=
  xw_readC (fun p L e R s m args below meth c H locs cells slots Qf ls C hR hS hl9 hlo hf hc hs kk => by
    have hts := C.2.2.2.2.2.1
    have hK := C.2.2.2.2.2.2.2.2.2.2.1
    obtain ⟨cell, q1, q2, q3, q4, q5, qA, z1, z2, z3, z4⟩ := x_arr (q := 7) (by decide) hK hR ht
    exact va_getC C.1 C.2.1 (by rw [C.2.2.2.1]; exact hl9.1.symm) C.2.2.2.2.1 (hts _ hl) (va_Nw.use (A := args) rfl (hK.2.2.2.1 _ q2830 (Or.inr (Or.inr (Or.inr (Or.inl ⟨_, rfl⟩)))))) (hts _ q2829) (hts _ q551) (hts _ q585) hK.2.2.2.2.2.2.2.2.1 ⟨cell, q1, q3, by rw [q5]; exact va_nmO (hK.2.1 7 (by decide)).2 (by decide +kernel)⟩ (by omega) (by unfold xloc at hlo; omega) hd kk) k
theorem xw_ldcM {ix : Nat} (hd : decode M.2.1 pc = .ok (.ldc ix, 2)) (hl : Cond.classLink M.1.cls ix "[Ljava/lang/Object;" ∈ lw_all) (k : XW M d (pc + 2) l (.ref ((xE g).2.2.1 7) :: rest) g Q) : XW M d pc l rest g Q :=
  xw_readC (fun p L e R s m args below meth c H locs cells slots Qf ls C hR hS hl9 hlo hf hc hs kk => by
    have hts := C.2.2.2.2.2.1
    have hK := C.2.2.2.2.2.2.2.2.2.2.1
    exact va_ldcM C.1 C.2.1 C.2.2.2.2.1 (hts _ hl) hK.2.2.2.2.2.2.2.2.1 hd kk) k
/-- a call that takes five bytes -/
def xRun5 (M M' : xM) (d pc : Nat) (g : xG) (st0 rest as : List Value) : Prop := ∀ (p : Program) (L : Launch) (e : Env) (R : Room) (s : State) (m : MethodId) (args : Array Value) (below : List Frame) (meth : Method) (c : Code) (H : Heap) (locs : List Loc) (cells slots : Nat) (ls : Array Slot) (mc ms : Nat) (Pc : Array Value → State → Prop) (Qc : Array Value → State → Outcome → State → Prop) (XC : String → Addr → State → State → Prop) (free : Addr → Prop),
  xC M p L s m args meth c (xE g) → xR g H → ls.size = M.2.2.1 → d + 1 ≤ R.frames → xloc (d + 1) ≤ R.locals → cells + mc ≤ R.cells → slots + ms ≤ R.slots → FrameBlind Pc → (∀ U : State, U.heap = H → s.WarmedH U.vm → Pc as.toArray U) →
  vx_Met L M'.1 (xws M') { frames := d, cells := mc, slots := ms, locals := xloc d } Pc Qc XC mc ms free → vx_Run5 p L e R s m args below meth c H locs cells slots mc ms (F0 m pc ls st0) rest (Qc as.toArray) XC free
theorem xw_call5 (hrun : xRun5 M M' d pc g st0 rest as) (hc : XM M' d as g P) (kk : ∀ rs g1, P rs g1 → xMono g g1 → ∃ v, rs = .inl (some v) ∧ XW M (d + 1) (pc + 5) l (v :: rest) g1 Q) : XW M (d + 1) pc l st0 g Q := by
  obtain ⟨rs1, g1, hP, hm1, hmet⟩ := hc
  obtain ⟨v, rfl, k'⟩ := kk rs1 g1 hP hm1
  have blind : FrameBlind (va_Pc as (fun U => xR g U.heap ∧ xK (xE g) U)) := fun a U g9 mk h => ⟨h.1, h.2.1, xK.moved (State.WarmedH.refl U) h.2.2⟩
  obtain ⟨rs, g', hQ, hm2, hr2⟩ := k'
  refine ⟨rs, g', hQ, hm1.tr hm2, ?_⟩
  intro p L e R s m args below meth c z0 H locs ls S
  obtain ⟨C, h1, h2, h3, h4, h5, h6, hR, hS, hl⟩ := S
  have a1 := hm1.2.1
  have a2 := hm2.2.1
  have a3 := hm1.2.2
  have a4 := hm2.2.2
  have run := hrun p L e R s m args below meth c H locs (xsz g - s.heap.size) (xsl g - z0) ls _ _ _ _ _ _ C hR hl.1 h3 h4 (by omega) (by omega) blind (fun U hU hW => ⟨rfl, by rw [hU]; exact hR, C.2.2.2.2.2.2.2.2.2.2.1.moved hW⟩) (hmet L C.2.2.2.2.2.2.2.2.2.1)
  intro T hT X
  rcases run T hT X with ⟨v', st₀, t, T', L', h0, X', hL, e1, e2, ⟨v'', hv, ho, hR1⟩, st⟩ | ⟨q, st₀, t, T', L', E, ce, h0, X', hL, e1, e2, ⟨hv, -⟩, -⟩
  · cases hv
    cases ho
    rw [← e1] at hR1
    have hz : s.heap.size ≤ T'.heap.size := by rw [hR1.1]; omega
    have e3 : xsz g - s.heap.size + (xsz g1 - xsz g) = xsz g1 - s.heap.size := by omega
    have e4 : xsl g - z0 + (xsl g1 - xsl g) = xsl g1 - z0 := by omega
    rw [e3, e4] at X'
    have w := hr2 p L e R s m args below meth c z0 T'.heap (locs ++ L') ls ⟨by rw [hm1.1]; exact C, by omega, by omega, h3, h4, h5, h6, hR1, by rw [hm1.1]; exact x_under hm1.1 C.2.2.2.2.2.2.2.2.2.2.2.1 C.2.2.2.2.2.2.2.2.2.2.2.2 hz hR1 hS.2.2 hL, hl⟩
    rw [hm1.1] at w
    obtain ⟨t2, b1, b2⟩ := w T' rfl X'
    exact ⟨t2, st t2 b1, b2⟩
  · cases hv
theorem xw_call5V {v : Value} {g1 : xG} (hrun : xRun5 M M' d pc g st0 rest as) (hc : XM M' d as g (xOne (some v) g1)) (k : XW M (d + 1) (pc + 5) l (v :: rest) g1 Q) : XW M (d + 1) pc l st0 g Q :=
  xw_call5 hrun hc (fun rs g2 h _ => by
    obtain ⟨rfl, rfl⟩ := h
    exact ⟨v, rfl, k⟩)
/-- invokeinterface of x, that the receiver's class has as M' -/
theorem xr_F {x : MethodName} {n idx b count : Nat} (hM : xMok M' n) (hh : M'.2.2.2.2 = []) (hloc : M'.2.2.1 ≤ 40) (hl : Cond.methodLink M.1.cls idx x ∈ lw_all) (hfw : (xnm (xtag g b), x, M'.1) ∈ xfw) (hi : Cond.instanceMethod M'.1 ∈ lw_all) (hse : Cond.selects (xnm (xtag g b)) x M'.1 ∈ lw_all) (hx : x.cls ≠ "java/lang/invoke/MethodHandle" ∧ x.cls ≠ "java/lang/invoke/VarHandle" ∧ (parseMethodDescriptor x.desc).map (fun d => d.parameters.length) = some n) (htb : xtag g b = 19)
    (hd : decode M.2.1 pc = .ok (.invokeinterface idx count, 5)) (hn : as.length = n) (hst : as.reverse ++ .ref b :: rest = st0) (hr : (rest.map fun v => v.category).sum ≤ 8) : xRun5 M M' d pc g st0 rest (.ref b :: as) := by
  intro p L e R s m args below meth c H locs cells slots ls mc ms Pc Qc XC free C hR hz hf hlo hc1 hc2 blind hP hMet
  subst hst
  have hts := C.2.2.2.2.2.1
  have hK := C.2.2.2.2.2.2.2.2.2.2.1
  obtain ⟨cell, k1, k2, k3⟩ := x_any hK hR (show xcls (xtag g b) = true by rw [htb]; rfl)
  have hat : ClassAt s (xnm (xtag g b)) ((xE g).1.1 18) := by rw [htb]; exact (hK.1 18 _ rfl).2
  have hF := hK.2.2.2.2.2.2.2.2.2.1.2.2 _ hfw
  obtain ⟨b1, b2, b3⟩ := x_back (mc := mc) (ms := ms) hM hh hloc hts hf hlo
  exact vx_runF (C := xnm (xtag g b)) (b := b) (As := as) hat ⟨C.1, C.2.1, C.2.2.2.1, C.2.2.2.2.1, hts⟩ hMet ⟨b1, hts _ hl, va_any rfl hF.1, va_any rfl hF.2.1, hts _ hse, hts _ hi, va_any rfl hF.2.2.1, va_any rfl hF.2.2.2.1, va_any rfl hF.2.2.2.2, b3, b2, ⟨hx.1, hx.2.1⟩, fun sig h => by
      have h2 := hx.2.2
      rw [h] at h2
      exact (Option.some.inj h2).symm⟩ ⟨blind, ⟨cell, k1, k2, k3⟩, hP⟩ rfl hn hz rfl (x_cat hr m ls _) hd ⟨hc1, hc2⟩
end X20
section X20b
variable {M : xM} {d pc : Nat} {l : List (Nat × Value)} {rest : List Value} {g : xG} {Q : Option Value ⊕ Nat → xG → Prop}
/-- the ordinal of a constant -/
theorem xw_ordinal {idx i : Nat} (hi : i < 3) (hd : decode M.2.1 pc = .ok (.getfield idx, 3)) (hl : Cond.fieldLink M.1.cls idx "java/lang/Enum" "ordinal" "I" ∈ lw_all) (k : XW M d (pc + 3) l (.int (nI i) :: rest) g Q) : XW M d pc l (.ref ((xE g).2.2.1 i) :: rest) g Q :=
  xw_readC (fun p L e R s m args below meth c H locs cells slots Qf ls C hR hS hl9 hlo hf hc hs kk => by
    have hts := C.2.2.2.2.2.1
    have hK := C.2.2.2.2.2.2.2.2.2.2.1
    have hst := C.2.2.2.2.2.2.2.2.2.2.2
    exact vk_getf C.1 C.2.1 ((hK.2.2.2.2.2.2.2.2.2.2.2 i hi).kept (fun a h1 _ => hst.2 a h1)) hS C.2.2.2.2.1 (hts _ hl) (fun _ h => h) hd kk) k
end X20b
