/-! CORE 31: a method of a class that has entries, but not for it -/
set_option maxRecDepth 100000
theorem vx_ofWF {l : Launch} {y : MethodName} {ws ws' : List Cond} {rm : Room} {Pc : Array Value → State → Prop} {Qc : Array Value → State → Outcome → State → Prop} {XC : String → Addr → State → State → Prop} {mc ms : Nat} {free : Addr → Prop} {cc : ByteArray} {maxL : Nat} {ret : Option FieldType}
    (hy : plainFor y = true) (hw : ws = Cond.code y cc maxL ret :: ws')
    (body : ∀ p e s m args below meth c s₁, BodyLoose p l y (headSpec ws rm) cc maxL ret e s m args below meth c s₁ → c.maxLocals = maxL → (∀ x ∈ c.exceptionTable.toList, False) → Pc args s →
      W p l e (headSpec ws rm).room s m args below meth c s.heap [] 0 0 (vx_MQ below Qc XC args s mc ms free) (entryFrame m args maxL)) : vx_Met l y ws rm Pc Qc XC mc ms free := by
  refine MetFree.of_bodySF (code := cc) (maxLocals := maxL) (ret := ret) hy ?_ ?_
  · intro args s m h hn
    obtain ⟨meth, c, h1, h2, h3, h4, h5, h6, -, -⟩ := Cond.code_spec hn (atoms_spec (ws := ws) h _ (by rw [hw]; exact List.mem_cons_self))
    exact ⟨meth, c, h1, h2, h3, h4, h5, h6⟩
  · intro p e s m args below meth c s₁ B hml hP _
    have hh0 : s₁.heap = s.heap := by rw [B.state]; rfl
    have ht : ∀ x ∈ c.exceptionTable.toList, False := by
      obtain ⟨meth9, c9, h1, h2, -, -, -, -, h7, -⟩ := Cond.code_spec B.named (atoms_spec (ws := ws) B.pre _ (by rw [hw]; exact List.mem_cons_self))
      cases Option.some.inj (h1.symm.trans B.method)
      cases Option.some.inj (h2.symm.trans (Stand.of_body B).code)
      intro x hx
      rw [Array.isEmpty_iff.mp h7] at hx
      cases hx
    obtain ⟨t, a1, o, b1, b2, b3⟩ := body p e s m args below meth c s₁ B hml ht hP s₁ hh0 (Stand.of_body B)
    exact ⟨t, o, a1, b1, b2, b3⟩
theorem xm_ofF {M : xM} {d : Nat} {as : List Value} {g : xG} {P : Option Value ⊕ Nat → xG → Prop} (hp : plainFor M.1 = true) (hh : M.2.2.2.2 = []) (hn : (lg_sl as).length ≤ M.2.2.1) (k : XW M d 0 (lv_args 0 as) [] g P) : XM M d as g P := by
  obtain ⟨rs, g', hP, hm, hr⟩ := k
  refine ⟨rs, g', hP, hm, fun L hL => ?_⟩
  obtain ⟨y, cc, n, ret, h0⟩ := M
  have hh : h0 = [] := hh
  subst hh
  refine vx_ofWF (cc := cc) (maxL := n) (ret := ret) (ws' := lw_all) hp rfl ?_
  intro p e s m args below meth c s₁ B hml ht hv
  obtain ⟨rfl, hR, hK⟩ := hv
  have hts := atoms_spec (ws := xws (y, cc, n, ret, [])) B.pre
  have hl := lv_entry as (n := n) hn
  rw [lg_entry_eq]
  have htab : c.exceptionTable.toList = tableOf [] := by
    cases hq : c.exceptionTable.toList with
    | nil => rfl
    | cons a b => exact (ht a (by rw [hq]; exact List.mem_cons_self)).elim
  have h := hr p L e { frames := d, cells := xsz g' - xsz g, slots := xsl g' - xsl g, locals := xloc d } s m as.toArray below meth c (xsl g) s.heap [] _
    ⟨⟨B.exec, B.bytes, B.returns, hml, findClass_of_methodNamed B.named, fun w hw => hts w (xws_all hw), B.notSynchronized, ⟨(name_of_methodNamed B.named B.method).1, B.named⟩, htab, hL, hK, hR.2.1, hR.2.2.1⟩, Nat.le_of_eq hR.1, Nat.le_refl _, Nat.le_refl _, Nat.le_refl _, by rw [hR.1]; exact Nat.le_refl _, Nat.le_refl _, hR, va_S.rf, hl⟩
  rw [hR.1, Nat.sub_self, Nat.sub_self] at h
  exact h
theorem pf_isNaN : plainFor M_J26_isNaN.1 = true := by decide +kernel
theorem pf_bits : plainFor M_J26_floatToIntBits.1 = true := by decide +kernel
