/-! CORE 30: a float's bits; float[].clone -/
set_option maxRecDepth 100000
def rawName : MethodName := ⟨"java/lang/Float", "floatToRawIntBits", "(F)I"⟩
section X30
variable {M : xM} {d pc : Nat} {l : List (Nat × Value)} {rest : List Value} {g : xG} {Q : Option Value ⊕ Nat → xG → Prop}
theorem xw_rawBits {b : UInt32} {idx : Nat} (hd : decode M.2.1 pc = .ok (.invokestatic idx, 3)) (hl : Cond.methodLink M.1.cls idx rawName ∈ lw_all) (hr : (rest.map fun v => v.category).sum ≤ 8) (k : XW M (d + 1) (pc + 3) l (.int b.toInt32 :: rest) g Q) : XW M (d + 1) pc l (.float b :: rest) g Q :=
  xw_readC (fun p L e R s m args below meth c H locs cells slots Qf ls C hR hS hl9 hlo hf hc hs kk => by
    have hts := C.2.2.2.2.2.1
    intro T hT X
    obtain ⟨r, kS, methS, hnS, hmS, hkS, N⟩ := NativeOf.of_static (hts _ q1792) (hts _ q1791) (ps := [.float]) (ret := some .int) (by decide +kernel)
    have hinitS := Cond.initialized_spec (findClass_of_methodNamed hnS) hkS (hts _ q137)
    obtain ⟨vm', X', step⟩ := X.invokestatic C.1 C.2.2.2.2.1 (hts _ hl) hnS hmS N.static hkS hinitS (by decide) (g := F0 m pc ls (.float b :: rest)) rfl (argsL := [.float b]) (rest := rest) (by rw [N.sig]; rfl) rfl (by rw [C.2.1]; exact hd)
    obtain ⟨t, a1, b1⟩ := kk (T.setVm vm') hT X'
    refine ⟨t, step t (fun acts => ?_), b1⟩
    have hA' : s.vm.Alike vm' := X'.warmed.alike
    obtain ⟨kS', N'⟩ := N.alike hA'
    exact Steps.floatToRawIntBitsOf (g := F0 m pc ls rest) (ig := .invokestatic idx) (len := 3) p X'.here acts N' b
      (X'.notFull (g := F0 m pc ls rest) (show ls.size = c.maxLocals by rw [C.2.2.2.1]; exact hl9.1) (vars := nativeFrameWords "java/lang/Float" "floatToRawIntBits" 1) (by omega) (by rw [show nativeFrameWords "java/lang/Float" "floatToRawIntBits" 1 = 3 from by decide]; show 2 * 0 + (rest.map fun v => v.category).sum + 14 ≤ _; unfold xloc at hlo; omega))
      (by rw [C.2.1]; exact hd) a1) k
theorem xw_cloneF {a idx : Nat} (o : Nat) (ho : o ≠ 0) (hd : decode M.2.1 pc = .ok (.invokevirtual idx, 3)) (hl : Cond.methodLink M.1.cls idx ⟨"[F", "clone", "()Ljava/lang/Object;"⟩ ∈ lw_all) (ht : xtag g a = 105) (hr : (rest.map fun v => v.category).sum ≤ 8) (kk : XW M (d + 1) (pc + 3) l (.ref (xsz g) :: rest) (xNew g (105, o, xlen g a, (xc g a).2.2.2) (xlen g a)) Q) : XW M (d + 1) pc l (.ref a :: rest) g Q := by
  refine xw_makeD (fun p L e R s m args below meth c H locs cells slots Qf ls Cx hR hS hl9 hf9 hlo9 hc1 hc2 kk9 => ?_) kk
  have hK := Cx.2.2.2.2.2.2.2.2.2.2.1
  have hts := Cx.2.2.2.2.2.1
  obtain ⟨cell, q1, q2, q3, q4, q5, qA, z1, z2, z3, z4⟩ := x_arr (q := 4) (by decide) hK hR ht
  obtain ⟨kS, hkS, cmS, hkindS⟩ := qA.2
  intro T hT X
  obtain ⟨c0, t0', f1, f2, f3⟩ := Cond.castable_spec (va_Nw.use (A := args) rfl (hK.2.2.2.1 _ q1771 (Or.inr (Or.inr (Or.inl ⟨_, _, rfl⟩)))))
  have hnm : s.vm.findClass "[F" = some cell.cls := by rw [q5]; exact x_nmF s hK
  cases hnm.symm.trans f1
  obtain ⟨kT, hkT, heT⟩ := X.warmed.alike.2.2 _ _ hkS
  have hkindT : kT.kind = .array cmS (xak 4) := by rw [heT]; exact hkindS
  obtain ⟨vm', X', st⟩ := X.cloneArray Cx.1 Cx.2.2.2.2.1 (hts _ hl) (hts _ q1769) (hts _ q289) (hts _ q290) (hts _ q1770) (a := a) (cell := cell) (by rw [hT]; exact q1) qA.1 q2 hnm f2 f3
    (fun i v hv => by
      have hi : i < xlen g a := by
        have := (Array.getElem?_eq_some_iff.mp hv).1
        omega
      have hv2 := (z4 i hi).symm.trans hv
      cases hv2
      have h9 := z3 i hi
      simpa [State.fitsSlot, State.slotType?, hkT, hkindT] using h9)
    (g := F0 m pc ls (.ref a :: rest)) rfl (show ls.size = c.maxLocals by rw [Cx.2.2.2.1]; exact hl9.1) rfl (by rw [Cx.2.1]; exact hd) (by omega) (by show 2 * 0 + _ + 14 ≤ _; unfold xloc at hlo9; omega) hc1 (by rw [z1]; exact hc2) (hloader := Vm.clonesLoader_of_array hkS hkindS)
  rw [z1] at X'
  rw [← hR.1] at kk9
  generalize hH1 : H.push ({ cls := cell.cls, slots := cell.slots } : Cell) = H1
  have w1 : H1.size = H.size + 1 := by rw [← hH1, Array.size_push]
  have e1 : H1[H.size]? = some ({ cls := cell.cls, slots := cell.slots } : Cell) := by rw [← hH1, Array.getElem?_push_size]
  have o1 : ∀ q : Nat, q < H.size → H1[q]? = H[q]? := fun q hq => by rw [← hH1, Array.getElem?_push, if_neg (Nat.ne_of_lt hq)]
  obtain ⟨t, b1, b2⟩ := kk9 H1 (Or.inr ⟨_, e1, fun h => (by cases h), rfl, fun _ => ⟨rfl, hR.2.1⟩, q5, fun h => absurd h (by show ¬ 105 < 60; decide), fun _ => ⟨z1, z2, fun j hj => z3 j hj⟩, fun j hj => z4 j hj⟩) w1 o1
    ((T.setVm vm').pushCell { cls := cell.cls, slots := cell.slots }) (by rw [← hH1, ← hT]; rfl) X'
  refine ⟨t, st t ?_, b2⟩
  rw [hT]
  exact b1
end X30
