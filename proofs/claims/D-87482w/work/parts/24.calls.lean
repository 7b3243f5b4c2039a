/-! ===== contracts and calls ===== -/
/-- a contract: from these arguments and this memory the method comes to Qf or Qx, makes at most mc cells of ms slots, its calls at most d deep -/
def Ct (y : MethodName) (ws : List Cond) (d mc ms : Nat) (avs : List Value) (M : List ACell) (Qf : Qfun) (Qx : Qxun) : Prop :=
  ∀ (l : Launch), l.stackTraces = false → ∀ (D : va_G) (dA : Nat → ClassId) (cs : Nat → Value) (ad : Nat → Nat) (sz : Nat), wfM M → wfS M.length avs →
    vx_Met l y ws (rmD d mc ms) (va_Pc (avs.map (rnV ad cs)) (fun U => U.heap.size = sz ∧ va_P D glC (rnM ad cs dA M) U.heap ∧ GX D dA cs (va_A (rnM ad cs dA M) sz) U U.heap ∧ va_D (fun _ => True) (rnM ad cs dA M)))
      (QcF Qf D dA cs (va_A (rnM ad cs dA M) sz) ad M.length) (XcF Qx D dA cs (va_A (rnM ad cs dA M) sz) ad M.length) mc ms (va_A (rnM ad cs dA M) sz)
/-- the locals at a method's entry -/
def lsE : List Value → List (Option Value)
  | [] => []
  | v :: vs => some v :: (if v.category = 2 then none :: lsE vs else lsE vs)
theorem lsE_args : ∀ (vs : List Value) (k i : Nat) (v : Value), (lsE vs)[i]? = some (some v) → (k + i, v) ∈ lv_args k vs
  | [], k, i, v, h => by simp [lsE] at h
  | w :: vs, k, 0, v, h => by
    simp only [lsE, List.getElem?_cons_zero, Option.some.injEq] at h
    subst h
    exact List.mem_cons_self
  | w :: vs, k, i + 1, v, h => by
    simp only [lsE, List.getElem?_cons_succ] at h
    by_cases hc : w.category = 2
    · rw [if_pos hc] at h
      cases i with
      | zero => simp at h
      | succ i =>
        rw [List.getElem?_cons_succ] at h
        have := lsE_args vs (k + 2) i v h
        rw [lv_args, if_pos hc]
        exact List.mem_cons_of_mem _ (by rw [show k + (i + 1 + 1) = k + 2 + i by omega]; exact this)
    · rw [if_neg hc] at h
      have := lsE_args vs (k + 1) i v h
      rw [lv_args, if_neg hc]
      exact List.mem_cons_of_mem _ (by rw [show k + (i + 1) = k + 1 + i by omega]; exact this)
theorem lv_args_rn {ad : Nat → Nat} {cs : Nat → Value} (hcs : ∀ k, (cs k).category = 1) : ∀ (vs : List Value) (k : Nat), lv_args k (vs.map (rnV ad cs)) = (lv_args k vs).map (fun q => (q.1, rnV ad cs q.2))
  | [], k => rfl
  | v :: vs, k => by
    rw [List.map_cons, lv_args, lv_args, List.map_cons, rnV_cat hcs, lv_args_rn hcs vs]
theorem lg_sl_len {ad : Nat → Nat} {cs : Nat → Value} (hcs : ∀ k, (cs k).category = 1) : ∀ (vs : List Value), (lg_sl (vs.map (rnV ad cs))).length = (lsE vs).length
  | [] => rfl
  | v :: vs => by
    have ih := lg_sl_len (ad := ad) hcs vs
    unfold lg_sl at ih ⊢
    rw [List.map_cons, List.flatMap_cons, List.length_append, ih, rnV_cat hcs]
    by_cases hc : v.category = 2
    · simp [lsE, hc]; omega
    · simp [lsE, hc]; omega
section
variable {cc : ByteArray} {X : Cx} {Qf : Qfun} {Qx : Qxun} {kc ks pc : Nat} {ls ls' : List (Option Value)} {rest : List Value} {M : List ACell}
/-- a contract by a walk of its body -/
theorem Ct.of {y : MethodName} {L d mc ms : Nat} {r : Option FieldType} {ini : Bool} {avs : List Value} (hy : plainName y.cls = true) (hlen : (lsE avs).length ≤ L) (hini : ini = true → y.name = "<init>") (hls : ls = lsE avs ++ List.replicate (L - (lsE avs).length) none)
    (k : E cc (y.cls, r, L, d, (mc, ms), ini, []) Qf Qx 0 0 0 ls [] M) : Ct y (ws_ y cc L r) d mc ms avs M Qf Qx := by
  intro l hst D dA cs ad sz hwM hwa
  refine vx_ofW (cc := cc) (maxL := L) (ret := r) hy rfl ?_
  intro p e s m args below meth c s₁ B hml htab hv
  obtain ⟨rfl, hsz, hP, hG, hD0⟩ := hv
  subst hsz
  have hcs := GC.cat hG.2.2.1
  have hts := atoms_spec (ws := ws_ y cc L r) B.pre
  have hts' : ∀ w ∈ lw_all, w.before _ s = true := fun w h => hts w (List.mem_cons_of_mem _ h)
  have hl := lv_entry (avs.map (rnV ad cs)) (n := L) (by rw [lg_sl_len hcs]; exact hlen)
  have htl : c.exceptionTable.toList = [] := List.eq_nil_iff_forall_not_mem.mpr (fun x hx => htab x hx)
  have K : Kx (y.cls, r, L, d, (mc, ms), ini, []) cc p l s m (avs.map (rnV ad cs)).toArray meth c D dA cs (va_A (rnM ad cs dA M) s.heap.size) :=
    ⟨B.exec, B.bytes, B.returns, hml, findClass_of_methodNamed B.named, hts', B.notSynchronized, fun h => ((name_of_methodNamed B.named B.method).1).trans (hini h), fun q h => Or.inr h, hG, hst, htl⟩
  rw [lg_entry_eq]
  refine k p l e s m _ below meth c D dA cs _ ad M.length K ad s.heap [] _ (fun _ _ => rfl) (Nat.le_refl _) ⟨hP, hD0.self, va_S.rf, ⟨hl.1, hl.2.1, fun i v hi => ?_⟩, hwM, ?_, fun _ h => by cases h⟩
  · rw [hls] at hi
    have hi' : (lsE avs)[i]? = some (some v) := by
      by_cases h : i < (lsE avs).length
      · rw [List.getElem?_append_left h] at hi; exact hi
      · rw [List.getElem?_append_right (by omega), List.getElem?_replicate] at hi
        split at hi <;> cases hi
    refine hl.2.2 (i, rnV ad cs v) ?_
    rw [lv_args_rn hcs]
    have := lsE_args avs 0 i v hi'
    rw [Nat.zero_add] at this
    exact List.mem_map.mpr ⟨_, this, rfl⟩
  · intro v hv
    rw [hls] at hv
    rcases List.mem_append.mp hv with h | h
    · have : ∀ (vs : List Value), some v ∈ lsE vs → v ∈ vs := by
        intro vs
        induction vs with
        | nil => intro h; simp [lsE] at h
        | cons w vs ih =>
          intro h
          rw [lsE] at h
          rcases List.mem_cons.mp h with e | h
          · cases e; exact List.mem_cons_self
          · by_cases hc : w.category = 2
            · rw [if_pos hc] at h
              rcases List.mem_cons.mp h with e | h
              · cases e
              · exact List.mem_cons_of_mem _ (ih h)
            · rw [if_neg hc] at h
              exact List.mem_cons_of_mem _ (ih h)
      exact hwa v (this avs h)
    · exact absurd (List.eq_of_mem_replicate h) (by simp)
theorem Ct.ofW {y : MethodName} {L d mc ms : Nat} {r : Option FieldType} {hh : List (Nat × Nat × Nat × Nat)} {avs : List Value} (hy : plainName y.cls = true) (hlen : (lsE avs).length ≤ L) (hls : ls = lsE avs ++ List.replicate (L - (lsE avs).length) none)
    (k : E cc (y.cls, r, L, d, (mc, ms), false, hh) Qf Qx 0 0 0 ls [] M) : Ct y (wsW_ y cc L r hh) d mc ms avs M Qf Qx := by
  intro l hst D dA cs ad sz hwM hwa
  refine vx_ofWH (cc := cc) (maxL := L) (ret := r) hy rfl ?_
  intro p e s m args below meth c s₁ B hml hv
  obtain ⟨rfl, hsz, hP, hG, hD0⟩ := hv
  subst hsz
  have hcs := GC.cat hG.2.2.1
  have hts := atoms_spec (ws := wsW_ y cc L r hh) B.pre
  have hts' : ∀ w ∈ lw_all, w.before _ s = true := fun w h => hts w (List.mem_cons_of_mem _ h)
  have hl := lv_entry (avs.map (rnV ad cs)) (n := L) (by rw [lg_sl_len hcs]; exact hlen)
  have htl : c.exceptionTable.toList = tableOf hh := vx_table (x := y) B (hts _ List.mem_cons_self)
  have K : Kx (y.cls, r, L, d, (mc, ms), false, hh) cc p l s m (avs.map (rnV ad cs)).toArray meth c D dA cs (va_A (rnM ad cs dA M) s.heap.size) :=
    ⟨B.exec, B.bytes, B.returns, hml, findClass_of_methodNamed B.named, hts', B.notSynchronized, (fun h => nomatch h), fun q h => Or.inr h, hG, hst, htl⟩
  rw [lg_entry_eq]
  refine k p l e s m _ below meth c D dA cs _ ad M.length K ad s.heap [] _ (fun _ _ => rfl) (Nat.le_refl _) ⟨hP, hD0.self, va_S.rf, ⟨hl.1, hl.2.1, fun i v hi => ?_⟩, hwM, ?_, fun _ h => by cases h⟩
  · rw [hls] at hi
    have hi' : (lsE avs)[i]? = some (some v) := by
      by_cases h : i < (lsE avs).length
      · rw [List.getElem?_append_left h] at hi; exact hi
      · rw [List.getElem?_append_right (by omega), List.getElem?_replicate] at hi
        split at hi <;> cases hi
    refine hl.2.2 (i, rnV ad cs v) ?_
    rw [lv_args_rn hcs]
    have := lsE_args avs 0 i v hi'
    rw [Nat.zero_add] at this
    exact List.mem_map.mpr ⟨_, this, rfl⟩
  · intro v hv
    rw [hls] at hv
    rcases List.mem_append.mp hv with h | h
    · have : ∀ (vs : List Value), some v ∈ lsE vs → v ∈ vs := by
        intro vs
        induction vs with
        | nil => intro h; simp [lsE] at h
        | cons w vs ih =>
          intro h
          rw [lsE] at h
          rcases List.mem_cons.mp h with e | h
          · cases e; exact List.mem_cons_self
          · by_cases hc : w.category = 2
            · rw [if_pos hc] at h
              rcases List.mem_cons.mp h with e | h
              · cases e
              · exact List.mem_cons_of_mem _ (ih h)
            · rw [if_neg hc] at h
              exact List.mem_cons_of_mem _ (ih h)
      exact hwa v (this avs h)
    · exact absurd (List.eq_of_mem_replicate h) (by simp)
/-- a frame of cells of this memory, for a callee -/
theorem rnM_free {s : State} {dA : Nat → ClassId} {cs : Nat → Value} {A : Nat → Prop} {ad : Nat → Nat} {H : Heap} {locs : List Loc} (hD : va_D A (rnM ad cs dA M)) (hS : va_S A s.heap H locs) (hA : ∀ q, s.heap.size ≤ q → A q) : ∀ q, va_A (rnM ad cs dA M) H.size q → A q := by
  intro q h
  rcases h with ⟨k, e, h⟩ | h
  · exact hD.2 k _ h
  · exact hA q (Nat.le_trans hS.1 h)
/-- what a callee's start asks -/
theorem rnM_pre {s U : State} {D : va_G} {dA : Nat → ClassId} {cs : Nat → Value} {A : Nat → Prop} {ad : Nat → Nat} {H : Heap} {locs : List Loc} (hP : va_P D glC (rnM ad cs dA M) H) (hD : va_D A (rnM ad cs dA M)) (hS : va_S A s.heap H locs) (hA : ∀ q, s.heap.size ≤ q → A q) (hG : GX D dA cs A s s.heap) (hU : U.heap = H) (hW : s.WarmedH U.vm) :
    U.heap.size = H.size ∧ va_P D glC (rnM ad cs dA M) U.heap ∧ GX D dA cs (va_A (rnM ad cs dA M) H.size) U U.heap ∧ va_D (fun _ => True) (rnM ad cs dA M) := by
  subst hU
  exact ⟨rfl, hP, GX.warm hW hG (fun a h1 h2 => hS.2.1 a h1 h2) (rnM_free hD hS hA), hD.weaken (fun _ _ _ _ => trivial)⟩
theorem Pc_blind {avs : List Value} {sz : Nat} {D : va_G} {dA : Nat → ClassId} {cs : Nat → Value} {A : Nat → Prop} {ws : va_W} : FrameBlind (va_Pc avs (fun U => U.heap.size = sz ∧ va_P D glC ws U.heap ∧ GX D dA cs A U U.heap ∧ va_D (fun _ => True) ws)) :=
  fun a U g mk q => by
    obtain ⟨q0, q1, qP, qG, qD⟩ := q
    exact ⟨q0, q1, qP, GX.same (u := U) (U := U.calling g mk a) rfl qG, qD⟩
/-- behind a call -/
theorem E.back {mc' ms' : Nat} {Qf' : Qfun} {Qx' : Qxun} {st : List Value} {p : Program} {l : Launch} {e : Env} {s : State} {m : MethodId} {args : Array Value} {below : List Frame} {meth : Method} {c : Code} {D : va_G} {dA : Nat → ClassId} {cs : Nat → Value} {A : Nat → Prop} {ad0 : Nat → Nat} {n0 : Nat} {a : Array Value}
    (hK : Kx X cc p l s m args meth c D dA cs A) {ad : Nat → Nat} {H : Heap} {locs : List Loc} {lsA : Array Slot} (ha : ∀ i, i < n0 → ad i = ad0 i) (hn : n0 ≤ M.length) (hR : Rl X s D dA cs A ad H locs lsA ls rest M)
    (hr : vx_Run p l e (rmD X.2.2.2.1 X.2.2.2.2.1.1 X.2.2.2.2.1.2) s m args below meth c H locs kc ks mc' ms' (F0 m pc lsA st) (rest.map (rnV ad cs)) (QcF Qf' D dA cs (va_A (rnM ad cs dA M) H.size) ad M.length a) (XcF Qx' D dA cs (va_A (rnM ad cs dA M) H.size) ad M.length) (va_A (rnM ad cs dA M) H.size))
    (kk : ∀ v M', Qf' v M' → M.length ≤ M'.length → E cc X Qf Qx (kc + mc') (ks + ms') (pc + 3) ls (v.toList ++ rest) M') (kx : ∀ cls w M', Qx' cls w M' → M.length ≤ M'.length → EX cc X Qf Qx (kc + mc') (ks + ms') pc ls cls w M') :
    W p l e (rmD X.2.2.2.1 X.2.2.2.2.1.1 X.2.2.2.2.1.2) s m args below meth c H locs kc ks (QF Qf Qx below args s D dA cs A ad0 n0 X.2.2.2.2.1.1 X.2.2.2.2.1.2) (F0 m pc lsA st) := by
  intro T hT XX
  obtain ⟨r1, r2, r3, r4, r5, r6, r7⟩ := hR
  have hF := rnM_free r2 r3 hK.2.2.2.2.2.2.2.2.1
  rcases hr T hT XX with ⟨v, st₀, t, T', L, h0, X', hL, e1, e2, ⟨⟨w, M', ad', ho, hq, hag, hlen, hP', hD', hw', hwv⟩, hFF⟩, stp⟩ | ⟨q, st₀, t, T', L, Ecl, ce, h0, X', hL, e1, e2, ⟨⟨w, M', ad', hq, hag, hlen, hP', hD', hw', hwi⟩, hFF⟩, hce, hcv, hcl, stp⟩
  · cases ho
    obtain ⟨k1, k2, k3⟩ := vx_keep h0 e1 r3 (fun q _ h => hF q h) hF hL hFF
    have hwst : wfS M'.length (w.toList ++ rest) := by
      intro x hx
      rcases List.mem_append.mp hx with h | h
      · cases w with
        | none => cases h
        | some w => rw [List.mem_singleton.mp h]; exact hwv w rfl
      · exact wfV.mono hlen (r7 x h)
    have hk := kk w M' hq hlen p l e s m args below meth c D dA cs A ad0 n0 hK ad' T'.heap (locs ++ L) lsA (fun i hi => (hag i (Nat.lt_of_lt_of_le hi hn)).trans (ha i hi)) (Nat.le_trans hn hlen)
      ⟨by rw [e1]; exact hP', hD'.weaken (fun k q _ h => hF q.1 h), k3, ⟨r4.1, r4.2.1, fun i x hx => by rw [rnV.agree hag (wfL_at r6 hx)]; exact r4.2.2 i x hx⟩, hw', wfL.mono hlen r6, hwst⟩
    have hst2 : ((w.map (rnV ad' cs)).toList ++ rest.map (rnV ad cs)) = (w.toList ++ rest).map (rnV ad' cs) := by
      rw [List.map_append]
      congr 1
      · cases w <;> rfl
      · exact List.map_congr_left (fun x hx => (rnV.agree hag (r7 x hx)).symm)
    obtain ⟨t2, a1, b1⟩ := hk T' rfl X'
    refine ⟨t2, stp t2 ?_, b1⟩
    have h9 : ({ F0 m pc lsA st with pc := (F0 m pc lsA st).pc + 3, stack := (w.map (rnV ad' cs)).toList ++ rest.map (rnV ad cs) } : JFrame) = F0 m (pc + 3) lsA ((w.toList ++ rest).map (rnV ad' cs)) := by rw [hst2]
    rw [h9]
    exact a1
  · obtain ⟨k1, k2, k3⟩ := vx_keep h0 e1 r3 (fun q _ h => hF q h) hF hL hFF
    have hk := kx Ecl w M' hq hlen p l e s m args below meth c D dA cs A ad0 n0 hK ad' T'.heap (locs ++ L) lsA q ce (rest.map (rnV ad cs)) (fun i hi => (hag i (Nat.lt_of_lt_of_le hi hn)).trans (ha i hi)) (Nat.le_trans hn hlen)
      ⟨by rw [e1]; exact hP', hD'.weaken (fun k q _ h => hF q.1 h), k3, ⟨r4.1, r4.2.1, fun i x hx => by rw [rnV.agree hag (wfL_at r6 hx)]; exact r4.2.2 i x hx⟩, hw', wfL.mono hlen r6, fun _ h => by cases h⟩ (by rw [e1]; exact hce) hcv hcl hwi
    obtain ⟨t2, a1, b1⟩ := hk T' rfl X'
    exact ⟨t2, stp.trans a1, b1⟩
/-- the words of a call: class, place in the pool, receiver's class, method, its code -/
def MV (own : String) (idx : Nat) (y : MethodName) (b : ByteArray) (L : Nat) (r : Option FieldType) (n : Nat) : Prop :=
  Cond.methodLink own idx y ∈ lw_all ∧ Cond.instanceMethod y ∈ lw_all ∧ Cond.selects y.cls y y ∈ lw_all ∧ Cond.initialized y.cls ∈ lw_all ∧ Cond.code y b L r ∈ lw_all ∧ (y.cls ≠ "java/lang/invoke/MethodHandle" ∧ y.cls ≠ "java/lang/invoke/VarHandle" ∧ (parseMethodDescriptor y.desc).map (fun d => d.parameters.length) = some n) ∧ L ≤ 40
def MS (own : String) (idx : Nat) (y : MethodName) (b : ByteArray) (L : Nat) (r : Option FieldType) (n : Nat) : Prop :=
  Cond.methodLink own idx y ∈ lw_all ∧ Cond.static y ∈ lw_all ∧ Cond.initialized y.cls ∈ lw_all ∧ Cond.code y b L r ∈ lw_all ∧ (y.cls ≠ "java/lang/invoke/MethodHandle" ∧ y.cls ≠ "java/lang/invoke/VarHandle" ∧ (parseMethodDescriptor y.desc).map (fun d => d.parameters.length) = some n) ∧ L ≤ 40
def MI (own : String) (idx : Nat) (y : MethodName) (b : ByteArray) (L : Nat) (n : Nat) : Prop :=
  (Cond.methodLink own idx y ∈ lw_all ∨ ∃ host, Cond.methodLinkNest own idx y host ∈ lw_tbl) ∧ Cond.instanceMethod y ∈ lw_all ∧ Cond.initialized y.cls ∈ lw_all ∧ Cond.code y b L none ∈ lw_all ∧ y.name = "<init>" ∧ (y.cls ≠ "java/lang/invoke/MethodHandle" ∧ y.cls ≠ "java/lang/invoke/VarHandle" ∧ (parseMethodDescriptor y.desc).map (fun d => d.parameters.length) = some n) ∧ L ≤ 40
theorem rm_ok {d d' mc ms mc' ms' L : Nat} (h : d' + 1 ≤ d) (hL : L ≤ 40) : (rmD d' mc' ms').frames + 1 ≤ (rmD d mc ms).frames ∧ 8 + (L + 11) + (rmD d' mc' ms').locals ≤ (rmD d mc ms).locals := by
  simp only [rmD]; omega
theorem e_invV {own : String} {idx n L d' mc' ms' ci b : Nat} {y : MethodName} {bts : ByteArray} {r : Option FieldType} {As fs : List Value} {T : u_T} {N : Nat} {Qf' : Qfun} {Qx' : Qxun} {st : List Value}
    (hd : decode cc pc = .ok (.invokevirtual idx, 3)) (ho : X.1 = own) (hw : MV own idx y bts L r n) (hM : M[b]? = some (.inr (ci, fs))) (hc : glC[ci]? = some (y.cls, T, N)) (hC : Ct y (ws_ y bts L r) d' mc' ms' (.ref b :: As) M Qf' Qx') (hdd : d' + 1 ≤ X.2.2.2.1) (hst : st = As.reverse ++ .ref b :: rest) (hn : As.length = n) (hcat : (rest.map fun v => v.category).sum ≤ 8) (hmc : kc + mc' ≤ X.2.2.2.2.1.1) (hms : ks + ms' ≤ X.2.2.2.2.1.2)
    (kk : ∀ v M', Qf' v M' → M.length ≤ M'.length → E cc X Qf Qx (kc + mc') (ks + ms') (pc + 3) ls (v.toList ++ rest) M') (kx : ∀ cls w M', Qx' cls w M' → M.length ≤ M'.length → EX cc X Qf Qx (kc + mc') (ks + ms') pc ls cls w M') : E cc X Qf Qx kc ks pc ls st M := by
  intro p l e s m args below meth c D dA cs A ad0 n0 hK ad H locs lsA ha hn0 hR
  subst hst
  obtain ⟨r1, r2, r3, r4, r5, r6, r7⟩ := hR
  have hG := hK.2.2.2.2.2.2.2.2.2.1
  have hts := hK.2.2.2.2.2.1
  have hwr : wfS M.length rest := fun x hx => r7 x (List.mem_append_right _ (List.mem_cons_of_mem _ hx))
  have hwa : wfS M.length (.ref b :: As) := fun x hx => by
    rcases List.mem_cons.mp hx with e | h
    · exact r7 x (List.mem_append_right _ (by rw [e]; exact List.mem_cons_self))
    · exact r7 x (List.mem_append_left _ (List.mem_reverse.mpr h))
  have hrun := vx_runV (rest := rest.map (rnV ad cs)) (As := As.map (rnV ad cs)) (b := ad b) (C := y.cls) (g := F0 m pc lsA ((As.reverse ++ .ref b :: rest).map (rnV ad cs))) (cells := kc) (slots := ks) (locs := locs) (e := e) (below := below) (meth := meth) (R := rmD X.2.2.2.1 X.2.2.2.2.1.1 X.2.2.2.2.1.2) ⟨hK.1, hK.2.1, hK.2.2.2.1, ho ▸ hK.2.2.2.2.1, hts⟩ (hC l hK.2.2.2.2.2.2.2.2.2.2.1 D dA cs ad H.size r5 hwa)
    (cwV n hts (lw_V hw.1 hw.2.1 hw.2.2.1 hw.2.2.2.1 hw.2.2.2.2.1) rfl rfl rfl ⟨rfl, hw.2.2.2.2.2.1⟩ (rm_ok hdd hw.2.2.2.2.2.2))
    ⟨Pc_blind, va_recv hG.1 r1 hc (rnM_at hM), fun U hU hW => ⟨rfl, rnM_pre r1 r2 r3 hK.2.2.2.2.2.2.2.2.1 hG hU hW⟩⟩ rfl (by rw [List.length_map]; exact hn) r4.1 (by show List.map _ _ = _; rw [List.map_append, List.map_reverse]; rfl) (by rw [rnV_cats (GC.cat hG.2.2.1)]; show 2 * 0 + _ ≤ 8; omega) hd ⟨hmc, hms⟩
  exact E.back hK ha hn0 ⟨r1, r2, r3, r4, r5, r6, hwr⟩ hrun kk kx
theorem e_invS {own : String} {idx n L d' mc' ms' : Nat} {y : MethodName} {bts : ByteArray} {r : Option FieldType} {As : List Value} {Qf' : Qfun} {Qx' : Qxun} {st : List Value}
    (hd : decode cc pc = .ok (.invokestatic idx, 3)) (ho : X.1 = own) (hw : MS own idx y bts L r n) (hC : Ct y (ws_ y bts L r) d' mc' ms' As M Qf' Qx') (hdd : d' + 1 ≤ X.2.2.2.1) (hst : st = As.reverse ++ rest) (hn : As.length = n) (hcat : (rest.map fun v => v.category).sum ≤ 8) (hmc : kc + mc' ≤ X.2.2.2.2.1.1) (hms : ks + ms' ≤ X.2.2.2.2.1.2)
    (kk : ∀ v M', Qf' v M' → M.length ≤ M'.length → E cc X Qf Qx (kc + mc') (ks + ms') (pc + 3) ls (v.toList ++ rest) M') (kx : ∀ cls w M', Qx' cls w M' → M.length ≤ M'.length → EX cc X Qf Qx (kc + mc') (ks + ms') pc ls cls w M') : E cc X Qf Qx kc ks pc ls st M := by
  intro p l e s m args below meth c D dA cs A ad0 n0 hK ad H locs lsA ha hn0 hR
  subst hst
  obtain ⟨r1, r2, r3, r4, r5, r6, r7⟩ := hR
  have hG := hK.2.2.2.2.2.2.2.2.2.1
  have hts := hK.2.2.2.2.2.1
  have hwr : wfS M.length rest := fun x hx => r7 x (List.mem_append_right _ hx)
  have hwa : wfS M.length As := fun x hx => r7 x (List.mem_append_left _ (List.mem_reverse.mpr hx))
  have hrun := vx_runS (rest := rest.map (rnV ad cs)) (As := As.map (rnV ad cs)) (g := F0 m pc lsA ((As.reverse ++ rest).map (rnV ad cs))) (cells := kc) (slots := ks) (locs := locs) (e := e) (below := below) (meth := meth) (R := rmD X.2.2.2.1 X.2.2.2.2.1.1 X.2.2.2.2.1.2) ⟨hK.1, hK.2.1, hK.2.2.2.1, ho ▸ hK.2.2.2.2.1, hts⟩ (hC l hK.2.2.2.2.2.2.2.2.2.2.1 D dA cs ad H.size r5 hwa)
    (va_cwS n hts (lw_S hw.1 hw.2.1 hw.2.2.1 hw.2.2.2.1) rfl rfl rfl hw.2.2.2.2.1 (rm_ok hdd hw.2.2.2.2.2))
    ⟨Pc_blind, fun U hU hW => ⟨rfl, rnM_pre r1 r2 r3 hK.2.2.2.2.2.2.2.2.1 hG hU hW⟩⟩ rfl (by rw [List.length_map]; exact hn) r4.1 (by show List.map _ _ = _; rw [List.map_append, List.map_reverse]) (by rw [rnV_cats (GC.cat hG.2.2.1)]; show 2 * 0 + _ ≤ 8; omega) hd ⟨hmc, hms⟩
  exact E.back hK ha hn0 ⟨r1, r2, r3, r4, r5, r6, hwr⟩ hrun kk kx
theorem e_invI {own : String} {idx n L d' mc' ms' b : Nat} {y : MethodName} {bts : ByteArray} {As : List Value} {Qf' : Qfun} {Qx' : Qxun} {st : List Value}
    (hd : decode cc pc = .ok (.invokespecial idx, 3)) (ho : X.1 = own) (hw : MI own idx y bts L n) (hC : Ct y (ws_ y bts L none) d' mc' ms' (.ref b :: As) M Qf' Qx') (hdd : d' + 1 ≤ X.2.2.2.1) (hst : st = As.reverse ++ .ref b :: rest) (hn : As.length = n) (hcat : (rest.map fun v => v.category).sum ≤ 8) (hmc : kc + mc' ≤ X.2.2.2.2.1.1) (hms : ks + ms' ≤ X.2.2.2.2.1.2)
    (kk : ∀ v M', Qf' v M' → M.length ≤ M'.length → E cc X Qf Qx (kc + mc') (ks + ms') (pc + 3) ls (v.toList ++ rest) M') (kx : ∀ cls w M', Qx' cls w M' → M.length ≤ M'.length → EX cc X Qf Qx (kc + mc') (ks + ms') pc ls cls w M') : E cc X Qf Qx kc ks pc ls st M := by
  intro p l e s m args below meth c D dA cs A ad0 n0 hK ad H locs lsA ha hn0 hR
  subst hst
  obtain ⟨r1, r2, r3, r4, r5, r6, r7⟩ := hR
  have hG := hK.2.2.2.2.2.2.2.2.2.1
  have hts := hK.2.2.2.2.2.1
  have hwr : wfS M.length rest := fun x hx => r7 x (List.mem_append_right _ (List.mem_cons_of_mem _ hx))
  have hwa : wfS M.length (.ref b :: As) := fun x hx => by
    rcases List.mem_cons.mp hx with e | h
    · exact r7 x (List.mem_append_right _ (by rw [e]; exact List.mem_cons_self))
    · exact r7 x (List.mem_append_left _ (List.mem_reverse.mpr h))
  rcases hw.1 with hl | ⟨host, hl⟩
  · have hrun := vx_runI (rest := rest.map (rnV ad cs)) (As := As.map (rnV ad cs)) (b := ad b) (g := F0 m pc lsA ((As.reverse ++ .ref b :: rest).map (rnV ad cs))) (cells := kc) (slots := ks) (locs := locs) (e := e) (below := below) (meth := meth) (R := rmD X.2.2.2.1 X.2.2.2.2.1.1 X.2.2.2.2.1.2) ⟨hK.1, hK.2.1, hK.2.2.2.1, ho ▸ hK.2.2.2.2.1, hts⟩ (hC l hK.2.2.2.2.2.2.2.2.2.2.1 D dA cs ad H.size r5 hwa)
      (cwI n hts (lw_meth hw.2.2.2.1) rfl rfl rfl (hts _ hw.2.2.1) (hts _ hl) (hts _ hw.2.1) hw.2.2.2.2.1 hw.2.2.2.2.2.1 (rm_ok hdd hw.2.2.2.2.2.2))
      ⟨Pc_blind, fun U hU hW => ⟨rfl, rnM_pre r1 r2 r3 hK.2.2.2.2.2.2.2.2.1 hG hU hW⟩⟩ rfl (by rw [List.length_map]; exact hn) r4.1 (by show List.map _ _ = _; rw [List.map_append, List.map_reverse]; rfl) (by rw [rnV_cats (GC.cat hG.2.2.1)]; show 2 * 0 + _ ≤ 8; omega) hd ⟨hmc, hms⟩
    exact E.back hK ha hn0 ⟨r1, r2, r3, r4, r5, r6, hwr⟩ hrun kk kx
  · have hrun := vx_runIN (rest := rest.map (rnV ad cs)) (As := As.map (rnV ad cs)) (b := ad b) (g := F0 m pc lsA ((As.reverse ++ .ref b :: rest).map (rnV ad cs))) (cells := kc) (slots := ks) (locs := locs) (e := e) (below := below) (meth := meth) (R := rmD X.2.2.2.1 X.2.2.2.2.1.1 X.2.2.2.2.1.2) ⟨hK.1, hK.2.1, hK.2.2.2.1, ho ▸ hK.2.2.2.2.1, hts⟩ (hC l hK.2.2.2.2.2.2.2.2.2.2.1 D dA cs ad H.size r5 hwa)
      ⟨va_cnB n hts (lw_meth hw.2.2.2.1) rfl rfl rfl (hG.2.1 _ hl rfl) (hts _ hw.2.2.1) hw.2.2.2.2.2.1 (rm_ok hdd hw.2.2.2.2.2.2), hw.2.2.2.2.1, hts _ hw.2.1⟩
      ⟨Pc_blind, fun U hU hW => ⟨rfl, rnM_pre r1 r2 r3 hK.2.2.2.2.2.2.2.2.1 hG hU hW⟩⟩ rfl (by rw [List.length_map]; exact hn) r4.1 (by show List.map _ _ = _; rw [List.map_append, List.map_reverse]; rfl) (by rw [rnV_cats (GC.cat hG.2.2.1)]; show 2 * 0 + _ ≤ 8; omega) hd ⟨hmc, hms⟩
    exact E.back hK ha hn0 ⟨r1, r2, r3, r4, r5, r6, hwr⟩ hrun kk kx
/-- super() of a class right below Object -/
theorem e_objI {own : String} {idx b : Nat} (hd : decode cc pc = .ok (.invokespecial idx, 3)) (ho : X.1 = own) (hl : Cond.methodLink own idx objectInit ∈ lw_all) (hi : Cond.instanceMethod objectInit ∈ lw_all) (hc : Cond.code objectInit ⟨#[0xb1]⟩ 1 none ∈ lw_all) (hcat : (rest.map fun v => v.category).sum ≤ 8) (k : E cc X Qf Qx kc ks (pc + 3) ls rest M) : E cc X Qf Qx kc ks pc ls (.ref b :: rest) M := by
  intro p l e s m args below meth c D dA cs A ad0 n0 hK ad H locs lsA ha hn0 hR
  obtain ⟨r1, r2, r3, r4, r5, r6, r7⟩ := hR
  have hG := hK.2.2.2.2.2.2.2.2.2.1
  have hts := hK.2.2.2.2.2.1
  refine W.objInit (R := rmD X.2.2.2.1 X.2.2.2.2.1.1 X.2.2.2.2.1.2) hK.1 hK.2.1 (ho ▸ hK.2.2.2.2.1) (hts _ hl) (hts _ hi) (hts _ hc) (g := F0 m pc lsA ((.ref b :: rest).map (rnV ad cs))) rfl (r4.1.trans hK.2.2.2.1.symm) (a := ad b) (rest := rest.map (rnV ad cs)) rfl hd (by simp only [rmD]; omega) (by rw [rnV_cats (GC.cat hG.2.2.1)]; simp only [rmD]; omega) ?_
  exact k p l e s m args below meth c D dA cs A ad0 n0 hK ad H locs lsA ha hn0 ⟨r1, r2, r3, r4, r5, r6, wfS_tl r7⟩
end
