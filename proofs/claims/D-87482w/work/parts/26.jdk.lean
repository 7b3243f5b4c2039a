/-! ===== contracts of the JDK's own methods: as vx_ofW and Ct.of, for a method by its whole name ===== -/
theorem vx_ofWF {l : Launch} {y : MethodName} {ws ws' : List Cond} {rm : Room} {Pc : Array Value → State → Prop} {Qc : Array Value → State → Outcome → State → Prop} {XC : String → Addr → State → State → Prop} {mc ms : Nat} {free : Addr → Prop} {cc : ByteArray} {maxL : Nat} {ret : Option FieldType}
    (hy : plainFor y = true) (hw : ws = Cond.code y cc maxL ret :: ws')
    (body : ∀ p e s m args below meth c s₁, BodyLoose p l y (headSpec ws rm) cc maxL ret e s m args below meth c s₁ → c.maxLocals = maxL → (∀ x ∈ c.exceptionTable.toList, False) → Pc args s →
      W p l e (headSpec ws rm).room s m args below meth c s.heap [] 0 0 (vx_MQ below Qc XC args s mc ms free) (entryFrame m args maxL)) : vx_Met l y ws rm Pc Qc XC mc ms free := by
  refine MetFree.of_bodySF (code := cc) (maxLocals := maxL) (ret := ret) hy ?_ ?_
  · intro args s m h hn
    obtain ⟨meth, c, h1, h2, h3, h4, h5, h6, -, -⟩ := Cond.code_spec hn (atoms_spec (ws := ws) h _ (by rw [hw]; exact List.mem_cons_self))
    exact ⟨meth, c, h1, h2, h3, h4, h5, h6⟩
  · intro p e s m args below meth c s₁ B hml hP _
    have hh0 : s₁.heap = s.heap := by rw [B.state]; rfl
    have ht : ∀ x ∈ c.exceptionTable.toList, False := by
      obtain ⟨meth9, c9, h1, h2, -, -, -, -, h7, -⟩ := Cond.code_spec B.named (atoms_spec (ws := ws) B.pre _ (by rw [hw]; exact List.mem_cons_self))
      cases Option.some.inj (h1.symm.trans B.method)
      cases Option.some.inj (h2.symm.trans (Stand.of_body B).code)
      intro x hx
      rw [Array.isEmpty_iff.mp h7] at hx
      cases hx
    obtain ⟨t, a1, o, b1, b2, b3⟩ := body p e s m args below meth c s₁ B hml ht hP s₁ hh0 (Stand.of_body B)
    exact ⟨t, o, a1, b1, b2, b3⟩
section
variable {cc : ByteArray} {X : Cx} {Qf : Qfun} {Qx : Qxun} {kc ks pc : Nat} {ls ls' : List (Option Value)} {rest : List Value} {M : List ACell}
/-- a contract by a walk of its body -/
theorem Ct.ofF {y : MethodName} {L d mc ms : Nat} {r : Option FieldType} {ini : Bool} {avs : List Value} (hy : plainFor y = true) (hlen : (lsE avs).length ≤ L) (hini : ini = true → y.name = "<init>") (hls : ls = lsE avs ++ List.replicate (L - (lsE avs).length) none)
    (k : E cc (y.cls, r, L, d, (mc, ms), ini, []) Qf Qx 0 0 0 ls [] M) : Ct y (ws_ y cc L r) d mc ms avs M Qf Qx := by
  intro l hst D dA cs ad sz hwM hwa
  refine vx_ofWF (cc := cc) (maxL := L) (ret := r) hy rfl ?_
  intro p e s m args below meth c s₁ B hml htab hv
  obtain ⟨rfl, hsz, hP, hG, hD0⟩ := hv
  subst hsz
  have hcs := GC.cat hG.2.2.1
  have hts := atoms_spec (ws := ws_ y cc L r) B.pre
  have hts' : ∀ w ∈ lw_all, w.before _ s = true := fun w h => hts w (List.mem_cons_of_mem _ h)
  have hl := lv_entry (avs.map (rnV ad cs)) (n := L) (by rw [lg_sl_len hcs]; exact hlen)
  have htl : c.exceptionTable.toList = [] := List.eq_nil_iff_forall_not_mem.mpr (fun x hx => htab x hx)
  have K : Kx (y.cls, r, L, d, (mc, ms), ini, []) cc p l s m (avs.map (rnV ad cs)).toArray meth c D dA cs (va_A (rnM ad cs dA M) s.heap.size) :=
    ⟨B.exec, B.bytes, B.returns, hml, findClass_of_methodNamed B.named, hts', B.notSynchronized, fun h => ((name_of_methodNamed B.named B.method).1).trans (hini h), fun q h => Or.inr h, hG, hst, htl⟩
  rw [lg_entry_eq]
  refine k p l e s m _ below meth c D dA cs _ ad M.length K ad s.heap [] _ (fun _ _ => rfl) (Nat.le_refl _) ⟨hP, hD0.self, va_S.rf, ⟨hl.1, hl.2.1, fun i v hi => ?_⟩, hwM, ?_, fun _ h => by cases h⟩
  · rw [hls] at hi
    have hi' : (lsE avs)[i]? = some (some v) := by
      by_cases h : i < (lsE avs).length
      · rw [List.getElem?_append_left h] at hi; exact hi
      · rw [List.getElem?_append_right (by omega), List.getElem?_replicate] at hi
        split at hi <;> cases hi
    refine hl.2.2 (i, rnV ad cs v) ?_
    rw [lv_args_rn hcs]
    have := lsE_args avs 0 i v hi'
    rw [Nat.zero_add] at this
    exact List.mem_map.mpr ⟨_, this, rfl⟩
  · intro v hv
    rw [hls] at hv
    rcases List.mem_append.mp hv with h | h
    · have : ∀ (vs : List Value), some v ∈ lsE vs → v ∈ vs := by
        intro vs
        induction vs with
        | nil => intro h; simp [lsE] at h
        | cons w vs ih =>
          intro h
          rw [lsE] at h
          rcases List.mem_cons.mp h with e | h
          · cases e; exact List.mem_cons_self
          · by_cases hc : w.category = 2
            · rw [if_pos hc] at h
              rcases List.mem_cons.mp h with e | h
              · cases e
              · exact List.mem_cons_of_mem _ (ih h)
            · rw [if_neg hc] at h
              exact List.mem_cons_of_mem _ (ih h)
      exact hwa v (this avs h)
    · exact absurd (List.eq_of_mem_replicate h) (by simp)
end
