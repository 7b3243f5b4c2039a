/-! ===== rows of the calculus: stack, locals, numbers, branches ===== -/
section
variable {cc : ByteArray} {X : Cx} {Qf : Qfun} {Qx : Qxun} {kc ks pc : Nat} {ls ls' : List (Option Value)} {rest : List Value} {M : List ACell}
/-- a row that changes stack, locals and pc alone -/
theorem E.go {pc' : Nat} {st st' : List Value} (hwf : ∀ n, wfL n ls → wfS n st → wfL n ls' ∧ wfS n st')
    (hs : ∀ {p : Program} {l : Launch} {e : Env} {s : State} {m : MethodId} {args : Array Value} {below : List Frame} {meth : Method} {c : Code} {D : va_G} {dA : Nat → ClassId} {cs : Nat → Value} {A : Nat → Prop} {ad : Nat → Nat} {H : Heap} {locs : List Loc} {lsA : Array Slot} {R : Room} {Q : State → Prop},
      Kx X cc p l s m args meth c D dA cs A → Lv lsA X.2.2.1 ad cs ls → va_S A s.heap H locs → (∀ lsA', Lv lsA' X.2.2.1 ad cs ls' → W p l e R s m args below meth c H locs kc ks Q (F0 m pc' lsA' (st'.map (rnV ad cs)))) → W p l e R s m args below meth c H locs kc ks Q (F0 m pc lsA (st.map (rnV ad cs))))
    (k : E cc X Qf Qx kc ks pc' ls' st' M) : E cc X Qf Qx kc ks pc ls st M := by
  intro p l e s m args below meth c D dA cs A ad0 n0 hK ad H locs lsA ha hn hR
  obtain ⟨r1, r2, r3, r4, r5, r6, r7⟩ := hR
  obtain ⟨w1, w2⟩ := hwf _ r6 r7
  exact hs hK r4 r3 (fun lsA' h' => k p l e s m args below meth c D dA cs A ad0 n0 hK ad H locs lsA' ha hn ⟨r1, r2, r3, h', r5, w1, w2⟩)
/-- a row with two ways on -/
theorem E.go2 {pc1 pc2 : Nat} {st st' : List Value} {C : Prop} (hwf : ∀ n, wfS n st → wfS n st')
    (hs : ∀ {p : Program} {l : Launch} {e : Env} {s : State} {m : MethodId} {args : Array Value} {below : List Frame} {meth : Method} {c : Code} {D : va_G} {dA : Nat → ClassId} {cs : Nat → Value} {A : Nat → Prop} {ad : Nat → Nat} {H : Heap} {locs : List Loc} {lsA : Array Slot} {R : Room} {Q : State → Prop},
      Kx X cc p l s m args meth c D dA cs A → (C → W p l e R s m args below meth c H locs kc ks Q (F0 m pc1 lsA (st'.map (rnV ad cs)))) → (¬ C → W p l e R s m args below meth c H locs kc ks Q (F0 m pc2 lsA (st'.map (rnV ad cs)))) → W p l e R s m args below meth c H locs kc ks Q (F0 m pc lsA (st.map (rnV ad cs))))
    (k1 : C → E cc X Qf Qx kc ks pc1 ls st' M) (k2 : ¬ C → E cc X Qf Qx kc ks pc2 ls st' M) : E cc X Qf Qx kc ks pc ls st M := by
  intro p l e s m args below meth c D dA cs A ad0 n0 hK ad H locs lsA ha hn hR
  obtain ⟨r1, r2, r3, r4, r5, r6, r7⟩ := hR
  have w2 := hwf _ r7
  exact hs hK (fun h => k1 h p l e s m args below meth c D dA cs A ad0 n0 hK ad H locs lsA ha hn ⟨r1, r2, r3, r4, r5, r6, w2⟩) (fun h => k2 h p l e s m args below meth c D dA cs A ad0 n0 hK ad H locs lsA ha hn ⟨r1, r2, r3, r4, r5, r6, w2⟩)
theorem wfS_tl {n : Nat} {v : Value} (h : wfS n (v :: rest)) : wfS n rest := fun w hw => h w (List.mem_cons_of_mem _ hw)
theorem wfS_hd {n : Nat} {v : Value} (h : wfS n (v :: rest)) : wfV n v := h v List.mem_cons_self
theorem wfS_cons {n : Nat} {v : Value} (h : wfV n v) (h2 : wfS n rest) : wfS n (v :: rest) := fun w hw => by
  rcases List.mem_cons.mp hw with e | e
  · rw [e]; exact h
  · exact h2 w e
/-- constants -/
theorem e_iconst {n : Int} (v : Int32) (hd : decode cc pc = .ok (.iconst n, 1)) (hv : Int32.ofInt n = v) (k : E cc X Qf Qx kc ks (pc + 1) ls (.int v :: rest) M) : E cc X Qf Qx kc ks pc ls rest M :=
  E.go (fun n h1 h2 => ⟨h1, wfS_cons (by exact trivial) h2⟩) (fun hK hl _ k => lv_iconst hK.1 hK.2.1 hd hv (k _ hl)) k
theorem e_bipush {n : Int} (v : Int32) (hd : decode cc pc = .ok (.bipush n, 2)) (hv : (Int8.ofInt n).toInt32 = v) (k : E cc X Qf Qx kc ks (pc + 2) ls (.int v :: rest) M) : E cc X Qf Qx kc ks pc ls rest M :=
  E.go (fun n h1 h2 => ⟨h1, wfS_cons (by exact trivial) h2⟩) (fun hK hl _ k => lv_bipush hK.1 hK.2.1 hd hv (k _ hl)) k
theorem e_sipush {n : Int} (v : Int32) (hd : decode cc pc = .ok (.sipush n, 3)) (hv : (Int16.ofInt n).toInt32 = v) (k : E cc X Qf Qx kc ks (pc + 3) ls (.int v :: rest) M) : E cc X Qf Qx kc ks pc ls rest M :=
  E.go (fun n h1 h2 => ⟨h1, wfS_cons (by exact trivial) h2⟩) (fun hK hl _ k => lv_sipush hK.1 hK.2.1 hd hv (k _ hl)) k
theorem e_lconst {n : Fin 2} (v : Int64) (hd : decode cc pc = .ok (.lconst n, 1)) (hv : Int64.ofNat (n : Nat) = v) (k : E cc X Qf Qx kc ks (pc + 1) ls (.long v :: rest) M) : E cc X Qf Qx kc ks pc ls rest M :=
  E.go (fun n h1 h2 => ⟨h1, wfS_cons (by exact trivial) h2⟩) (fun hK hl _ k => lv_lconst hK.1 hK.2.1 hd hv (k _ hl)) k
theorem e_null (hd : decode cc pc = .ok (.aconst_null, 1)) (k : E cc X Qf Qx kc ks (pc + 1) ls (.null :: rest) M) : E cc X Qf Qx kc ks pc ls rest M :=
  E.go (fun n h1 h2 => ⟨h1, wfS_cons (by exact trivial) h2⟩) (fun hK hl _ k => lv_null hK.1 hK.2.1 hd (k _ hl)) k
theorem e_ldc {i : Nat} {v : Int32} {own : String} (ho : X.1 = own) (hc : Cond.constant own i v ∈ lw_all) (hd : decode cc pc = .ok (.ldc i, 2)) (k : E cc X Qf Qx kc ks (pc + 2) ls (.int v :: rest) M) : E cc X Qf Qx kc ks pc ls rest M :=
  E.go (fun n h1 h2 => ⟨h1, wfS_cons (by exact trivial) h2⟩) (fun hK hl _ k => lv_ldc hK.1 hK.2.1 (ho ▸ hK.2.2.2.2.1) (hK.2.2.2.2.2.1 _ hc) hd (k _ hl)) k
theorem e_ldc2 {i : Nat} {v : Int64} {own : String} (ho : X.1 = own) (hc : Cond.constantLong own i v ∈ lw_all) (hd : decode cc pc = .ok (.ldc2_w i, 3)) (k : E cc X Qf Qx kc ks (pc + 3) ls (.long v :: rest) M) : E cc X Qf Qx kc ks pc ls rest M :=
  E.go (fun n h1 h2 => ⟨h1, wfS_cons (by exact trivial) h2⟩) (fun hK hl _ k => lv_ldc2 hK.1 hK.2.1 (ho ▸ hK.2.2.2.2.1) (hK.2.2.2.2.2.1 _ hc) hd (k _ hl)) k
theorem e_ldc2d {i : Nat} {v : UInt64} {own : String} (ho : X.1 = own) (hc : Cond.constantDouble own i v ∈ lw_all) (hd : decode cc pc = .ok (.ldc2_w i, 3)) (k : E cc X Qf Qx kc ks (pc + 3) ls (.double v :: rest) M) : E cc X Qf Qx kc ks pc ls rest M :=
  E.go (fun n h1 h2 => ⟨h1, wfS_cons (by exact trivial) h2⟩) (fun hK hl _ k => lv_ldc2d hK.1 hK.2.1 (ho ▸ hK.2.2.2.2.1) (hK.2.2.2.2.2.1 _ hc) hd (k _ hl)) k
/-- loads -/
theorem wfL_at {n i : Nat} {v : Value} (h : wfL n ls) (hi : ls[i]? = some (some v)) : wfV n v := h v (List.mem_of_getElem? hi)
theorem e_iload_n {f : Fin 4} {x : Int32} (hd : decode cc pc = .ok (.iload_n f, 1)) (i : Nat) (hi : (f : Nat) = i) (hl : ls[i]? = some (some (.int x))) (k : E cc X Qf Qx kc ks (pc + 1) ls (.int x :: rest) M) : E cc X Qf Qx kc ks pc ls rest M :=
  E.go (fun n h1 h2 => ⟨h1, wfS_cons (by exact trivial) h2⟩) (fun hK hL _ k => lv_iload_n hK.1 hK.2.1 hd hi (hL.2.2 _ _ hl) (k _ hL)) k
theorem e_iload {i : Nat} {x : Int32} (hd : decode cc pc = .ok (.iload i, 2)) (hl : ls[i]? = some (some (.int x))) (k : E cc X Qf Qx kc ks (pc + 2) ls (.int x :: rest) M) : E cc X Qf Qx kc ks pc ls rest M :=
  E.go (fun n h1 h2 => ⟨h1, wfS_cons (by exact trivial) h2⟩) (fun hK hL _ k => lv_iload hK.1 hK.2.1 hd (hL.2.2 _ _ hl) (k _ hL)) k
theorem e_lload_n {f : Fin 4} {x : Int64} (hd : decode cc pc = .ok (.lload_n f, 1)) (i : Nat) (hi : (f : Nat) = i) (hl : ls[i]? = some (some (.long x))) (k : E cc X Qf Qx kc ks (pc + 1) ls (.long x :: rest) M) : E cc X Qf Qx kc ks pc ls rest M :=
  E.go (fun n h1 h2 => ⟨h1, wfS_cons (by exact trivial) h2⟩) (fun hK hL _ k => lv_lload_n hK.1 hK.2.1 hd hi (hL.2.2 _ _ hl) (k _ hL)) k
theorem e_lload {i : Nat} {x : Int64} (hd : decode cc pc = .ok (.lload i, 2)) (hl : ls[i]? = some (some (.long x))) (k : E cc X Qf Qx kc ks (pc + 2) ls (.long x :: rest) M) : E cc X Qf Qx kc ks pc ls rest M :=
  E.go (fun n h1 h2 => ⟨h1, wfS_cons (by exact trivial) h2⟩) (fun hK hL _ k => lv_lload hK.1 hK.2.1 hd (hL.2.2 _ _ hl) (k _ hL)) k
theorem e_dload_n {f : Fin 4} {x : UInt64} (hd : decode cc pc = .ok (.dload_n f, 1)) (i : Nat) (hi : (f : Nat) = i) (hl : ls[i]? = some (some (.double x))) (k : E cc X Qf Qx kc ks (pc + 1) ls (.double x :: rest) M) : E cc X Qf Qx kc ks pc ls rest M :=
  E.go (fun n h1 h2 => ⟨h1, wfS_cons (by exact trivial) h2⟩) (fun hK hL _ k => lv_dload_n hK.1 hK.2.1 hd hi (hL.2.2 _ _ hl) (k _ hL)) k
/-- a reference: of the memory, a constant or null -/
def isRf : Value → Bool
  | .ref _ => true
  | .retAddr _ => true
  | .null => true
  | _ => false
def GC (cs : Nat → Value) : Prop := ∀ k, cs k = .null ∨ ∃ a, cs k = .ref a
theorem rnV_rf {ad : Nat → Nat} {cs : Nat → Value} (h : GC cs) {v : Value} (hv : isRf v = true) : rnV ad cs v = .null ∨ ∃ a, rnV ad cs v = .ref a := by
  cases v <;> first | (cases hv; done) | exact Or.inl rfl | exact Or.inr ⟨_, rfl⟩ | exact h _
theorem e_aload_n {f : Fin 4} {v : Value} (hd : decode cc pc = .ok (.aload_n f, 1)) (i : Nat) (hi : (f : Nat) = i) (hl : ls[i]? = some (some v)) (hv : isRf v = true) (k : E cc X Qf Qx kc ks (pc + 1) ls (v :: rest) M) : E cc X Qf Qx kc ks pc ls rest M :=
  E.go (fun n h1 h2 => ⟨h1, wfS_cons (wfL_at h1 hl) h2⟩) (fun {p l e s m args below meth c D dA cs A ad H locs lsA R Q} hK hL _ k => by
    have h0 := hL.2.2 _ _ hl
    have hk := k _ hL
    rw [List.map_cons] at hk
    rcases rnV_rf (ad := ad) hK.2.2.2.2.2.2.2.2.2.1.2.2.1 hv with e1 | ⟨a, e1⟩
    · rw [e1] at h0 hk; exact lv_aload_nN hK.1 hK.2.1 hd hi h0 hk
    · rw [e1] at h0 hk; exact lv_aload_n hK.1 hK.2.1 hd hi h0 hk) k
theorem e_aload {i : Nat} {v : Value} (hd : decode cc pc = .ok (.aload i, 2)) (hl : ls[i]? = some (some v)) (hv : isRf v = true) (k : E cc X Qf Qx kc ks (pc + 2) ls (v :: rest) M) : E cc X Qf Qx kc ks pc ls rest M :=
  E.go (fun n h1 h2 => ⟨h1, wfS_cons (wfL_at h1 hl) h2⟩) (fun {p l e s m args below meth c D dA cs A ad H locs lsA R Q} hK hL _ k => by
    have h0 := hL.2.2 _ _ hl
    have hk := k _ hL
    rw [List.map_cons] at hk
    rcases rnV_rf (ad := ad) hK.2.2.2.2.2.2.2.2.2.1.2.2.1 hv with e1 | ⟨a, e1⟩
    · rw [e1] at h0 hk; exact lv_aloadN hK.1 hK.2.1 hd h0 hk
    · rw [e1] at h0 hk; exact lv_aload hK.1 hK.2.1 hd h0 hk) k
/-- storing: the list with the place i new; what stood there or half there is gone -/
def nc2 (a : Option Value) : Bool := match a with
  | some (.long _) => false
  | some (.double _) => false
  | _ => true
/-- place i of ls gets v (of one slot) -/
def LSet (i : Nat) (v : Option Value) (ls ls' : List (Option Value)) : Prop := ls' = ls.set i v ∧ i < ls.length ∧ ∀ j a, j + 1 = i → ls[j]? = some a → nc2 a = true
theorem ls_0 {v a : Option Value} {l : List (Option Value)} : LSet 0 v (a :: l) (v :: l) := ⟨rfl, Nat.zero_lt_succ _, fun j a h => absurd h (by omega)⟩
theorem ls_1 {v a b : Option Value} {l : List (Option Value)} (h : nc2 a = true) : LSet 1 v (a :: b :: l) (a :: v :: l) :=
  ⟨rfl, Nat.succ_lt_succ (Nat.zero_lt_succ _), fun j x hj hx => by rw [show j = 0 by omega] at hx; cases hx; exact h⟩
theorem ls_s {i : Nat} {v a : Option Value} {l l' : List (Option Value)} (h : LSet (i + 1) v l l') : LSet (i + 2) v (a :: l) (a :: l') := by
  obtain ⟨h1, h2, h3⟩ := h
  refine ⟨by rw [h1]; rfl, Nat.succ_lt_succ h2, fun j x hj hx => ?_⟩
  obtain ⟨j, rfl⟩ : ∃ j', j = j' + 1 := ⟨i, by omega⟩
  exact h3 j x (by omega) hx
theorem Lv.has {lsA : Array Slot} {nL : Nat} {ad : Nat → Nat} {cs : Nat → Value} (h : Lv lsA nL ad cs ls) : lv_has lsA nL ((List.range ls.length).filterMap (fun i => (ls[i]?.getD none).map (fun v => (i, rnV ad cs v)))) := by
  refine ⟨h.1, h.2.1, fun q hq => ?_⟩
  obtain ⟨i, -, hi⟩ := List.mem_filterMap.mp hq
  cases hx : ls[i]? with
  | none => rw [hx] at hi; cases hi
  | some o =>
    rw [hx] at hi
    cases o with
    | none => cases hi
    | some v =>
      cases hi
      exact h.2.2 i v hx
theorem Lv.mem {ad : Nat → Nat} {cs : Nat → Value} {i : Nat} {v : Value} (h : ls[i]? = some (some v)) : (i, rnV ad cs v) ∈ (List.range ls.length).filterMap (fun i => (ls[i]?.getD none).map (fun v => (i, rnV ad cs v))) :=
  List.mem_filterMap.mpr ⟨i, List.mem_range.mpr (List.getElem?_eq_some_iff.mp h).1, by rw [h]; rfl⟩
theorem Lv.set1 {lsA lsA' : Array Slot} {nL i : Nat} {ad : Nat → Nat} {cs : Nat → Value} {v : Value} (hc : ∀ w, (rnV ad cs w).category = 2 → nc2 (some w) = false) (h : Lv lsA nL ad cs ls) (hs : LSet i (some v) ls ls')
    (h' : lv_has lsA' nL ((i, rnV ad cs v) :: ((List.range ls.length).filterMap (fun i => (ls[i]?.getD none).map (fun v => (i, rnV ad cs v)))).filter (fun q => !(q.1 == i) && !(q.1 + 1 == i && q.2.category == 2)))) : Lv lsA' nL ad cs ls' := by
  obtain ⟨rfl, h2, h3⟩ := hs
  refine ⟨h'.1, h'.2.1, fun j w hj => ?_⟩
  rw [List.getElem?_set] at hj
  by_cases e : i = j
  · subst e
    rw [if_pos rfl, if_pos h2] at hj
    cases hj
    exact h'.2.2 _ List.mem_cons_self
  · rw [if_neg e] at hj
    refine h'.2.2 (j, rnV ad cs w) (List.mem_cons_of_mem _ (List.mem_filter.mpr ⟨Lv.mem hj, ?_⟩))
    have e1 : (j == i) = false := by simpa using fun q => e q.symm
    simp only [e1, Bool.not_false, Bool.true_and, Bool.not_eq_true', Bool.and_eq_false_iff]
    by_cases e2 : j + 1 = i
    · right
      have := h3 j _ e2 hj
      by_cases e3 : (rnV ad cs w).category = 2
      · rw [hc w e3] at this; cases this
      · simpa using e3
    · left; simpa using e2
theorem Lv.set2 {lsA lsA' : Array Slot} {nL i : Nat} {ad : Nat → Nat} {cs : Nat → Value} {v : Value} (hc : ∀ w, (rnV ad cs w).category = 2 → nc2 (some w) = false) (h : Lv lsA nL ad cs ls) {l1 : List (Option Value)} (hs : LSet i (some v) ls l1) (hs2 : ls' = l1.set (i + 1) none)
    (h' : lv_has lsA' nL ((i, rnV ad cs v) :: ((List.range ls.length).filterMap (fun i => (ls[i]?.getD none).map (fun v => (i, rnV ad cs v)))).filter (fun q => !(q.1 == i) && (!(q.1 == i + 1) && !(q.1 + 1 == i && q.2.category == 2))))) : Lv lsA' nL ad cs ls' := by
  obtain ⟨rfl, h2, h3⟩ := hs
  subst hs2
  refine ⟨h'.1, h'.2.1, fun j w hj => ?_⟩
  rw [List.getElem?_set] at hj
  by_cases e0 : i + 1 = j
  · subst e0
    rw [if_pos rfl] at hj
    split at hj <;> cases hj
  rw [if_neg e0] at hj
  rw [List.getElem?_set] at hj
  by_cases e : i = j
  · subst e
    rw [if_pos rfl, if_pos h2] at hj
    cases hj
    exact h'.2.2 _ List.mem_cons_self
  · rw [if_neg e] at hj
    refine h'.2.2 (j, rnV ad cs w) (List.mem_cons_of_mem _ (List.mem_filter.mpr ⟨Lv.mem hj, ?_⟩))
    have e1 : (j == i) = false := by simpa using fun q => e q.symm
    have e4 : (j == i + 1) = false := by simpa using fun q => e0 q.symm
    simp only [e1, e4, Bool.not_false, Bool.true_and, Bool.not_eq_true', Bool.and_eq_false_iff]
    by_cases e2 : j + 1 = i
    · right
      have := h3 j _ e2 hj
      by_cases e3 : (rnV ad cs w).category = 2
      · rw [hc w e3] at this; cases this
      · simpa using e3
    · left; simpa using e2
theorem GC.cat {cs : Nat → Value} (h : GC cs) : ∀ k, (cs k).category = 1 := fun k => by
  rcases h k with e | ⟨a, e⟩ <;> rw [e] <;> rfl
theorem GC.c2 {cs : Nat → Value} (h : GC cs) {ad : Nat → Nat} : ∀ w, (rnV ad cs w).category = 2 → nc2 (some w) = false := fun w hw => by
  rw [rnV_cat h.cat] at hw
  cases w <;> first | rfl | cases hw
theorem LSet.wf {n i : Nat} {v : Value} (hs : LSet i (some v) ls ls') (h : wfL n ls) (hv : wfV n v) : wfL n ls' := by
  intro w hw
  rw [hs.1] at hw
  rcases List.mem_or_eq_of_mem_set hw with h1 | h1
  · exact h w h1
  · cases h1; exact hv
theorem LSet.lt {i nL : Nat} {v : Option Value} (hs : LSet i v ls ls') (h : ls.length ≤ nL) : i < nL := Nat.lt_of_lt_of_le hs.2.1 h
theorem e_iadd {x y : Int32} (hd : decode cc pc = .ok (.iadd, 1)) (k : E cc X Qf Qx kc ks (pc + 1) ls (.int (x + y) :: rest) M) : E cc X Qf Qx kc ks pc ls (.int y :: .int x :: rest) M :=
  E.go (fun n h1 h2 => ⟨h1, wfS_cons (by exact trivial) (wfS_tl (wfS_tl h2))⟩) (fun hK hl _ k => lv_iadd hK.1 hK.2.1 hd (k _ hl)) k
theorem e_isub {x y : Int32} (hd : decode cc pc = .ok (.isub, 1)) (k : E cc X Qf Qx kc ks (pc + 1) ls (.int (x - y) :: rest) M) : E cc X Qf Qx kc ks pc ls (.int y :: .int x :: rest) M :=
  E.go (fun n h1 h2 => ⟨h1, wfS_cons (by exact trivial) (wfS_tl (wfS_tl h2))⟩) (fun hK hl _ k => lv_isub hK.1 hK.2.1 hd (k _ hl)) k
theorem e_imul {x y : Int32} (hd : decode cc pc = .ok (.imul, 1)) (k : E cc X Qf Qx kc ks (pc + 1) ls (.int (x * y) :: rest) M) : E cc X Qf Qx kc ks pc ls (.int y :: .int x :: rest) M :=
  E.go (fun n h1 h2 => ⟨h1, wfS_cons (by exact trivial) (wfS_tl (wfS_tl h2))⟩) (fun hK hl _ k => lv_imul hK.1 hK.2.1 hd (k _ hl)) k
theorem e_iand {x y : Int32} (hd : decode cc pc = .ok (.iand, 1)) (k : E cc X Qf Qx kc ks (pc + 1) ls (.int (x &&& y) :: rest) M) : E cc X Qf Qx kc ks pc ls (.int y :: .int x :: rest) M :=
  E.go (fun n h1 h2 => ⟨h1, wfS_cons (by exact trivial) (wfS_tl (wfS_tl h2))⟩) (fun hK hl _ k => lv_iand hK.1 hK.2.1 hd (k _ hl)) k
theorem e_idiv {x y : Int32} (hd : decode cc pc = .ok (.idiv, 1)) (hne : ¬ y = 0) (k : E cc X Qf Qx kc ks (pc + 1) ls (.int (x / y) :: rest) M) : E cc X Qf Qx kc ks pc ls (.int y :: .int x :: rest) M :=
  E.go (fun n h1 h2 => ⟨h1, wfS_cons (by exact trivial) (wfS_tl (wfS_tl h2))⟩) (fun hK hl _ k => lv_idiv hK.1 hK.2.1 hd hne (k _ hl)) k
theorem e_irem {x y : Int32} (hd : decode cc pc = .ok (.irem, 1)) (hne : ¬ y = 0) (k : E cc X Qf Qx kc ks (pc + 1) ls (.int (x - x / y * y) :: rest) M) : E cc X Qf Qx kc ks pc ls (.int y :: .int x :: rest) M :=
  E.go (fun n h1 h2 => ⟨h1, wfS_cons (by exact trivial) (wfS_tl (wfS_tl h2))⟩) (fun hK hl _ k => lv_irem hK.1 hK.2.1 hd hne (k _ hl)) k
theorem e_ishr {x y : Int32} (hd : decode cc pc = .ok (.ishr, 1)) (k : E cc X Qf Qx kc ks (pc + 1) ls (.int (x >>> (y &&& 31)) :: rest) M) : E cc X Qf Qx kc ks pc ls (.int y :: .int x :: rest) M :=
  E.go (fun n h1 h2 => ⟨h1, wfS_cons (by exact trivial) (wfS_tl (wfS_tl h2))⟩) (fun hK hl _ k => lv_ishr hK.1 hK.2.1 hd (k _ hl)) k
theorem e_ladd {x y : Int64} (hd : decode cc pc = .ok (.ladd, 1)) (k : E cc X Qf Qx kc ks (pc + 1) ls (.long (x + y) :: rest) M) : E cc X Qf Qx kc ks pc ls (.long y :: .long x :: rest) M :=
  E.go (fun n h1 h2 => ⟨h1, wfS_cons (by exact trivial) (wfS_tl (wfS_tl h2))⟩) (fun hK hl _ k => lv_ladd hK.1 hK.2.1 hd (k _ hl)) k
theorem e_lsub {x y : Int64} (hd : decode cc pc = .ok (.lsub, 1)) (k : E cc X Qf Qx kc ks (pc + 1) ls (.long (x - y) :: rest) M) : E cc X Qf Qx kc ks pc ls (.long y :: .long x :: rest) M :=
  E.go (fun n h1 h2 => ⟨h1, wfS_cons (by exact trivial) (wfS_tl (wfS_tl h2))⟩) (fun hK hl _ k => lv_lsub hK.1 hK.2.1 hd (k _ hl)) k
theorem e_lmul {x y : Int64} (hd : decode cc pc = .ok (.lmul, 1)) (k : E cc X Qf Qx kc ks (pc + 1) ls (.long (x * y) :: rest) M) : E cc X Qf Qx kc ks pc ls (.long y :: .long x :: rest) M :=
  E.go (fun n h1 h2 => ⟨h1, wfS_cons (by exact trivial) (wfS_tl (wfS_tl h2))⟩) (fun hK hl _ k => lv_lmul hK.1 hK.2.1 hd (k _ hl)) k
theorem e_land {x y : Int64} (hd : decode cc pc = .ok (.land, 1)) (k : E cc X Qf Qx kc ks (pc + 1) ls (.long (x &&& y) :: rest) M) : E cc X Qf Qx kc ks pc ls (.long y :: .long x :: rest) M :=
  E.go (fun n h1 h2 => ⟨h1, wfS_cons (by exact trivial) (wfS_tl (wfS_tl h2))⟩) (fun hK hl _ k => lv_land hK.1 hK.2.1 hd (k _ hl)) k
theorem e_lor {x y : Int64} (hd : decode cc pc = .ok (.lor, 1)) (k : E cc X Qf Qx kc ks (pc + 1) ls (.long (x ||| y) :: rest) M) : E cc X Qf Qx kc ks pc ls (.long y :: .long x :: rest) M :=
  E.go (fun n h1 h2 => ⟨h1, wfS_cons (by exact trivial) (wfS_tl (wfS_tl h2))⟩) (fun hK hl _ k => lv_lor hK.1 hK.2.1 hd (k _ hl)) k
theorem e_lxor {x y : Int64} (hd : decode cc pc = .ok (.lxor, 1)) (k : E cc X Qf Qx kc ks (pc + 1) ls (.long (x ^^^ y) :: rest) M) : E cc X Qf Qx kc ks pc ls (.long y :: .long x :: rest) M :=
  E.go (fun n h1 h2 => ⟨h1, wfS_cons (by exact trivial) (wfS_tl (wfS_tl h2))⟩) (fun hK hl _ k => lv_lxor hK.1 hK.2.1 hd (k _ hl)) k
theorem e_ldiv {x y : Int64} (hd : decode cc pc = .ok (.ldiv, 1)) (hne : ¬ y = 0) (k : E cc X Qf Qx kc ks (pc + 1) ls (.long (x / y) :: rest) M) : E cc X Qf Qx kc ks pc ls (.long y :: .long x :: rest) M :=
  E.go (fun n h1 h2 => ⟨h1, wfS_cons (by exact trivial) (wfS_tl (wfS_tl h2))⟩) (fun hK hl _ k => lv_ldiv hK.1 hK.2.1 hd hne (k _ hl)) k
theorem e_lrem {x y : Int64} (hd : decode cc pc = .ok (.lrem, 1)) (hne : ¬ y = 0) (k : E cc X Qf Qx kc ks (pc + 1) ls (.long (x - x / y * y) :: rest) M) : E cc X Qf Qx kc ks pc ls (.long y :: .long x :: rest) M :=
  E.go (fun n h1 h2 => ⟨h1, wfS_cons (by exact trivial) (wfS_tl (wfS_tl h2))⟩) (fun hK hl _ k => lv_lrem hK.1 hK.2.1 hd hne (k _ hl)) k
theorem e_ineg {x : Int32} (hd : decode cc pc = .ok (.ineg, 1)) (k : E cc X Qf Qx kc ks (pc + 1) ls (.int (-x) :: rest) M) : E cc X Qf Qx kc ks pc ls (.int x :: rest) M :=
  E.go (fun n h1 h2 => ⟨h1, wfS_cons (by exact trivial) (wfS_tl h2)⟩) (fun hK hl _ k => lv_ineg hK.1 hK.2.1 hd (k _ hl)) k
theorem e_lneg {x : Int64} (hd : decode cc pc = .ok (.lneg, 1)) (k : E cc X Qf Qx kc ks (pc + 1) ls (.long (-x) :: rest) M) : E cc X Qf Qx kc ks pc ls (.long x :: rest) M :=
  E.go (fun n h1 h2 => ⟨h1, wfS_cons (by exact trivial) (wfS_tl h2)⟩) (fun hK hl _ k => lv_lneg hK.1 hK.2.1 hd (k _ hl)) k
theorem e_i2l {x : Int32} (hd : decode cc pc = .ok (.i2l, 1)) (k : E cc X Qf Qx kc ks (pc + 1) ls (.long x.toInt64 :: rest) M) : E cc X Qf Qx kc ks pc ls (.int x :: rest) M :=
  E.go (fun n h1 h2 => ⟨h1, wfS_cons (by exact trivial) (wfS_tl h2)⟩) (fun hK hl _ k => lv_i2l hK.1 hK.2.1 hd rfl (k _ hl)) k
theorem e_l2i {x : Int64} (hd : decode cc pc = .ok (.l2i, 1)) (k : E cc X Qf Qx kc ks (pc + 1) ls (.int x.toInt32 :: rest) M) : E cc X Qf Qx kc ks pc ls (.long x :: rest) M :=
  E.go (fun n h1 h2 => ⟨h1, wfS_cons (by exact trivial) (wfS_tl h2)⟩) (fun hK hl _ k => lv_l2i hK.1 hK.2.1 hd rfl (k _ hl)) k
theorem e_i2b {x : Int32} (hd : decode cc pc = .ok (.i2b, 1)) (k : E cc X Qf Qx kc ks (pc + 1) ls (.int x.toInt8.toInt32 :: rest) M) : E cc X Qf Qx kc ks pc ls (.int x :: rest) M :=
  E.go (fun n h1 h2 => ⟨h1, wfS_cons (by exact trivial) (wfS_tl h2)⟩) (fun hK hl _ k => lv_i2b hK.1 hK.2.1 hd rfl (k _ hl)) k
theorem e_i2s {x : Int32} (hd : decode cc pc = .ok (.i2s, 1)) (k : E cc X Qf Qx kc ks (pc + 1) ls (.int x.toInt16.toInt32 :: rest) M) : E cc X Qf Qx kc ks pc ls (.int x :: rest) M :=
  E.go (fun n h1 h2 => ⟨h1, wfS_cons (by exact trivial) (wfS_tl h2)⟩) (fun hK hl _ k => lv_i2s hK.1 hK.2.1 hd rfl (k _ hl)) k
theorem e_l2d {x : Int64} (hd : decode cc pc = .ok (.l2d, 1)) (k : E cc X Qf Qx kc ks (pc + 1) ls (.double (FP.l2d x) :: rest) M) : E cc X Qf Qx kc ks pc ls (.long x :: rest) M :=
  E.go (fun n h1 h2 => ⟨h1, wfS_cons (by exact trivial) (wfS_tl h2)⟩) (fun hK hl _ k => lv_l2d hK.1 hK.2.1 hd (k _ hl)) k
theorem e_lshl {x : Int64} {y : Int32} (hd : decode cc pc = .ok (.lshl, 1)) (k : E cc X Qf Qx kc ks (pc + 1) ls (.long (x <<< (y.toInt64 &&& 63)) :: rest) M) : E cc X Qf Qx kc ks pc ls (.int y :: .long x :: rest) M :=
  E.go (fun n h1 h2 => ⟨h1, wfS_cons (by exact trivial) (wfS_tl (wfS_tl h2))⟩) (fun hK hl _ k => lv_lshl hK.1 hK.2.1 hd rfl (k _ hl)) k
theorem e_lcmp {x y : Int64} (hd : decode cc pc = .ok (.lcmp, 1)) (k : E cc X Qf Qx kc ks (pc + 1) ls (.int (lg_cmp x y) :: rest) M) : E cc X Qf Qx kc ks pc ls (.long y :: .long x :: rest) M :=
  E.go (fun n h1 h2 => ⟨h1, wfS_cons (by exact trivial) (wfS_tl (wfS_tl h2))⟩) (fun hK hl _ k => W.lcmp hK.1 hK.2.1 hd (k _ hl)) k
theorem e_dcmp {x y : UInt64} {op : CmpOp} (hd : decode cc pc = .ok (.dcmp op, 1)) (k : E cc X Qf Qx kc ks (pc + 1) ls (.int (Op.cmpValue (FP.dcmp x y) op) :: rest) M) : E cc X Qf Qx kc ks pc ls (.double y :: .double x :: rest) M :=
  E.go (fun n h1 h2 => ⟨h1, wfS_cons (by exact trivial) (wfS_tl (wfS_tl h2))⟩) (fun hK hl _ k => lv_dcmp hK.1 hK.2.1 hd (k _ hl)) k
theorem e_dup {v : Value} (hd : decode cc pc = .ok (.dup, 1)) (hv : v.category = 1) (k : E cc X Qf Qx kc ks (pc + 1) ls (v :: v :: rest) M) : E cc X Qf Qx kc ks pc ls (v :: rest) M :=
  E.go (fun n h1 h2 => ⟨h1, wfS_cons (wfS_hd h2) h2⟩) (fun hK hl _ k => lv_dup hK.1 hK.2.1 hd (by rw [rnV_cat (GC.cat hK.2.2.2.2.2.2.2.2.2.1.2.2.1)]; exact hv) (k _ hl)) k
theorem e_pop {v : Value} (hd : decode cc pc = .ok (.pop, 1)) (hv : v.category = 1) (k : E cc X Qf Qx kc ks (pc + 1) ls rest M) : E cc X Qf Qx kc ks pc ls (v :: rest) M :=
  E.go (fun n h1 h2 => ⟨h1, wfS_tl h2⟩) (fun hK hl _ k => lv_pop hK.1 hK.2.1 hd (by rw [rnV_cat (GC.cat hK.2.2.2.2.2.2.2.2.2.1.2.2.1)]; exact hv) (k _ hl)) k
theorem e_dup2 {v w : Value} (hd : decode cc pc = .ok (.dup2, 1)) (hv : v.category = 1) (hw : w.category = 1) (k : E cc X Qf Qx kc ks (pc + 1) ls (v :: w :: v :: w :: rest) M) : E cc X Qf Qx kc ks pc ls (v :: w :: rest) M :=
  E.go (fun n h1 h2 => ⟨h1, wfS_cons (wfS_hd h2) (wfS_cons (wfS_hd (wfS_tl h2)) h2)⟩) (fun hK hl _ k => lv_dup2_11 hK.1 hK.2.1 hd (by rw [rnV_cat (GC.cat hK.2.2.2.2.2.2.2.2.2.1.2.2.1)]; exact hv) (by rw [rnV_cat (GC.cat hK.2.2.2.2.2.2.2.2.2.1.2.2.1)]; exact hw) (k _ hl)) k
theorem e_dup_x1 {v w : Value} (hd : decode cc pc = .ok (.dup_x1, 1)) (hv : v.category = 1) (hw : w.category = 1) (k : E cc X Qf Qx kc ks (pc + 1) ls (v :: w :: v :: rest) M) : E cc X Qf Qx kc ks pc ls (v :: w :: rest) M :=
  E.go (fun n h1 h2 => ⟨h1, wfS_cons (wfS_hd h2) (wfS_cons (wfS_hd (wfS_tl h2)) (wfS_cons (wfS_hd h2) (wfS_tl (wfS_tl h2))))⟩) (fun hK hl _ k => lv_dup_x1 hK.1 hK.2.1 hd (by rw [rnV_cat (GC.cat hK.2.2.2.2.2.2.2.2.2.1.2.2.1)]; exact hv) (by rw [rnV_cat (GC.cat hK.2.2.2.2.2.2.2.2.2.1.2.2.1)]; exact hw) (k _ hl)) k
theorem e_if_eq {x : Int32} {off : Int} (tgt : Nat) (hd : decode cc pc = .ok (.ifCond .eq off, 3)) (ht : (pc : Int) + off = (tgt : Int)) (kt : x = 0 → E cc X Qf Qx kc ks tgt ls rest M) (kf : ¬ (x = 0) → E cc X Qf Qx kc ks (pc + 3) ls rest M) : E cc X Qf Qx kc ks pc ls (.int x :: rest) M :=
  E.go2 (fun n h2 => wfS_tl h2) (fun hK a b => lv_if_eq hK.1 hK.2.1 hd ht a b) kt kf
theorem e_icmp_eq {x y : Int32} {off : Int} (tgt : Nat) (hd : decode cc pc = .ok (.if_icmp .eq off, 3)) (ht : (pc : Int) + off = (tgt : Int)) (kt : x = y → E cc X Qf Qx kc ks tgt ls rest M) (kf : ¬ (x = y) → E cc X Qf Qx kc ks (pc + 3) ls rest M) : E cc X Qf Qx kc ks pc ls (.int y :: .int x :: rest) M :=
  E.go2 (fun n h2 => wfS_tl (wfS_tl h2)) (fun hK a b => lv_icmp_eq hK.1 hK.2.1 hd ht a b) kt kf
theorem e_if_ne {x : Int32} {off : Int} (tgt : Nat) (hd : decode cc pc = .ok (.ifCond .ne off, 3)) (ht : (pc : Int) + off = (tgt : Int)) (kt : ¬ x = 0 → E cc X Qf Qx kc ks tgt ls rest M) (kf : x = 0 → E cc X Qf Qx kc ks (pc + 3) ls rest M) : E cc X Qf Qx kc ks pc ls (.int x :: rest) M :=
  E.go2 (fun n h2 => wfS_tl h2) (fun hK a b => lv_if_ne hK.1 hK.2.1 hd ht b a) kf kt
theorem e_icmp_ne {x y : Int32} {off : Int} (tgt : Nat) (hd : decode cc pc = .ok (.if_icmp .ne off, 3)) (ht : (pc : Int) + off = (tgt : Int)) (kt : ¬ x = y → E cc X Qf Qx kc ks tgt ls rest M) (kf : x = y → E cc X Qf Qx kc ks (pc + 3) ls rest M) : E cc X Qf Qx kc ks pc ls (.int y :: .int x :: rest) M :=
  E.go2 (fun n h2 => wfS_tl (wfS_tl h2)) (fun hK a b => lv_icmp_ne hK.1 hK.2.1 hd ht b a) kf kt
theorem e_if_lt {x : Int32} {off : Int} (tgt : Nat) (hd : decode cc pc = .ok (.ifCond .lt off, 3)) (ht : (pc : Int) + off = (tgt : Int)) (kt : x < 0 → E cc X Qf Qx kc ks tgt ls rest M) (kf : ¬ (x < 0) → E cc X Qf Qx kc ks (pc + 3) ls rest M) : E cc X Qf Qx kc ks pc ls (.int x :: rest) M :=
  E.go2 (fun n h2 => wfS_tl h2) (fun hK a b => lv_if_lt hK.1 hK.2.1 hd ht a b) kt kf
theorem e_icmp_lt {x y : Int32} {off : Int} (tgt : Nat) (hd : decode cc pc = .ok (.if_icmp .lt off, 3)) (ht : (pc : Int) + off = (tgt : Int)) (kt : x < y → E cc X Qf Qx kc ks tgt ls rest M) (kf : ¬ (x < y) → E cc X Qf Qx kc ks (pc + 3) ls rest M) : E cc X Qf Qx kc ks pc ls (.int y :: .int x :: rest) M :=
  E.go2 (fun n h2 => wfS_tl (wfS_tl h2)) (fun hK a b => lv_icmp_lt hK.1 hK.2.1 hd ht a b) kt kf
theorem e_if_ge {x : Int32} {off : Int} (tgt : Nat) (hd : decode cc pc = .ok (.ifCond .ge off, 3)) (ht : (pc : Int) + off = (tgt : Int)) (kt : 0 ≤ x → E cc X Qf Qx kc ks tgt ls rest M) (kf : ¬ (0 ≤ x) → E cc X Qf Qx kc ks (pc + 3) ls rest M) : E cc X Qf Qx kc ks pc ls (.int x :: rest) M :=
  E.go2 (fun n h2 => wfS_tl h2) (fun hK a b => lv_if_ge hK.1 hK.2.1 hd ht a b) kt kf
theorem e_icmp_ge {x y : Int32} {off : Int} (tgt : Nat) (hd : decode cc pc = .ok (.if_icmp .ge off, 3)) (ht : (pc : Int) + off = (tgt : Int)) (kt : y ≤ x → E cc X Qf Qx kc ks tgt ls rest M) (kf : ¬ (y ≤ x) → E cc X Qf Qx kc ks (pc + 3) ls rest M) : E cc X Qf Qx kc ks pc ls (.int y :: .int x :: rest) M :=
  E.go2 (fun n h2 => wfS_tl (wfS_tl h2)) (fun hK a b => lv_icmp_ge hK.1 hK.2.1 hd ht a b) kt kf
theorem e_if_gt {x : Int32} {off : Int} (tgt : Nat) (hd : decode cc pc = .ok (.ifCond .gt off, 3)) (ht : (pc : Int) + off = (tgt : Int)) (kt : 0 < x → E cc X Qf Qx kc ks tgt ls rest M) (kf : ¬ (0 < x) → E cc X Qf Qx kc ks (pc + 3) ls rest M) : E cc X Qf Qx kc ks pc ls (.int x :: rest) M :=
  E.go2 (fun n h2 => wfS_tl h2) (fun hK a b => lv_if_gt hK.1 hK.2.1 hd ht a b) kt kf
theorem e_icmp_gt {x y : Int32} {off : Int} (tgt : Nat) (hd : decode cc pc = .ok (.if_icmp .gt off, 3)) (ht : (pc : Int) + off = (tgt : Int)) (kt : y < x → E cc X Qf Qx kc ks tgt ls rest M) (kf : ¬ (y < x) → E cc X Qf Qx kc ks (pc + 3) ls rest M) : E cc X Qf Qx kc ks pc ls (.int y :: .int x :: rest) M :=
  E.go2 (fun n h2 => wfS_tl (wfS_tl h2)) (fun hK a b => lv_icmp_gt hK.1 hK.2.1 hd ht a b) kt kf
theorem e_if_le {x : Int32} {off : Int} (tgt : Nat) (hd : decode cc pc = .ok (.ifCond .le off, 3)) (ht : (pc : Int) + off = (tgt : Int)) (kt : x ≤ 0 → E cc X Qf Qx kc ks tgt ls rest M) (kf : ¬ (x ≤ 0) → E cc X Qf Qx kc ks (pc + 3) ls rest M) : E cc X Qf Qx kc ks pc ls (.int x :: rest) M :=
  E.go2 (fun n h2 => wfS_tl h2) (fun hK a b => lv_if_le hK.1 hK.2.1 hd ht a b) kt kf
theorem e_icmp_le {x y : Int32} {off : Int} (tgt : Nat) (hd : decode cc pc = .ok (.if_icmp .le off, 3)) (ht : (pc : Int) + off = (tgt : Int)) (kt : x ≤ y → E cc X Qf Qx kc ks tgt ls rest M) (kf : ¬ (x ≤ y) → E cc X Qf Qx kc ks (pc + 3) ls rest M) : E cc X Qf Qx kc ks pc ls (.int y :: .int x :: rest) M :=
  E.go2 (fun n h2 => wfS_tl (wfS_tl h2)) (fun hK a b => lv_icmp_le hK.1 hK.2.1 hd ht a b) kt kf
theorem e_goto {off : Int} (tgt : Nat) (hd : decode cc pc = .ok (.goto off, 3)) (ht : (pc : Int) + off = (tgt : Int)) (k : E cc X Qf Qx kc ks tgt ls rest M) : E cc X Qf Qx kc ks pc ls rest M :=
  E.go (fun n h1 h2 => ⟨h1, h2⟩) (fun hK hl _ k => lv_goto hK.1 hK.2.1 hd ht (k _ hl)) k
theorem e_tableIn {dflt lo hi : Int} {offs : Array Int} {len : Nat} {x : Int32} {off : Int} (tgt : Nat) (hd : decode cc pc = .ok (.tableswitch dflt lo hi offs, len)) (h1 : ¬ x.toInt < lo) (h2 : ¬ hi < x.toInt) (ho : offs[(x.toInt - lo).toNat]? = some off) (ht : (pc : Int) + off = (tgt : Int)) (k : E cc X Qf Qx kc ks tgt ls rest M) : E cc X Qf Qx kc ks pc ls (.int x :: rest) M :=
  E.go (fun n h1 h2 => ⟨h1, wfS_tl h2⟩) (fun hK hl _ k => lv_tableIn hK.1 hK.2.1 hd h1 h2 ho ht (k _ hl)) k
theorem e_tableOut {dflt lo hi : Int} {offs : Array Int} {len : Nat} {x : Int32} (tgt : Nat) (hd : decode cc pc = .ok (.tableswitch dflt lo hi offs, len)) (h : x.toInt < lo ∨ hi < x.toInt) (ht : (pc : Int) + dflt = (tgt : Int)) (k : E cc X Qf Qx kc ks tgt ls rest M) : E cc X Qf Qx kc ks pc ls (.int x :: rest) M :=
  E.go (fun n h1 h2 => ⟨h1, wfS_tl h2⟩) (fun hK hl _ k => lv_tableOut hK.1 hK.2.1 hd h ht (k _ hl)) k
theorem e_ifnull {x : Nat} {off : Int} (hd : decode cc pc = .ok (.ifnull off, 3)) (k : E cc X Qf Qx kc ks (pc + 3) ls rest M) : E cc X Qf Qx kc ks pc ls (.ref x :: rest) M :=
  E.go (fun n h1 h2 => ⟨h1, wfS_tl h2⟩) (fun hK hl _ k => lv_ifnull hK.1 hK.2.1 hd (k _ hl)) k
theorem e_ifnullN {off : Int} (tgt : Nat) (hd : decode cc pc = .ok (.ifnull off, 3)) (ht : (pc : Int) + off = (tgt : Int)) (k : E cc X Qf Qx kc ks tgt ls rest M) : E cc X Qf Qx kc ks pc ls (.null :: rest) M :=
  E.go (fun n h1 h2 => ⟨h1, wfS_tl h2⟩) (fun hK hl _ k => lv_ifnullN hK.1 hK.2.1 hd ht (k _ hl)) k
theorem e_ifnonnull {x : Nat} {off : Int} (tgt : Nat) (hd : decode cc pc = .ok (.ifnonnull off, 3)) (ht : (pc : Int) + off = (tgt : Int)) (k : E cc X Qf Qx kc ks tgt ls rest M) : E cc X Qf Qx kc ks pc ls (.ref x :: rest) M :=
  E.go (fun n h1 h2 => ⟨h1, wfS_tl h2⟩) (fun hK hl _ k => lv_ifnonnull hK.1 hK.2.1 hd ht (k _ hl)) k
theorem e_ifnonnullN {off : Int} (hd : decode cc pc = .ok (.ifnonnull off, 3)) (k : E cc X Qf Qx kc ks (pc + 3) ls rest M) : E cc X Qf Qx kc ks pc ls (.null :: rest) M :=
  E.go (fun n h1 h2 => ⟨h1, wfS_tl h2⟩) (fun hK hl _ k => lv_ifnonnullN hK.1 hK.2.1 hd (k _ hl)) k
theorem e_istore_n {f : Fin 4} {x : Int32} (hd : decode cc pc = .ok (.istore_n f, 1)) (i : Nat) (hi : (f : Nat) = i) (hs : LSet i (some (.int x)) ls ls') (hn : i < X.2.2.1) (k : E cc X Qf Qx kc ks (pc + 1) ls' rest M) : E cc X Qf Qx kc ks pc ls (.int x :: rest) M :=
  E.go (fun n h1 h2 => ⟨hs.wf h1 (by exact trivial), wfS_tl h2⟩) (fun hK hL _ k => lv_istore_n hK.1 hK.2.1 hd hi hL.has hn rfl (fun _ h' => k _ (Lv.set1 (GC.c2 hK.2.2.2.2.2.2.2.2.2.1.2.2.1) hL hs h'))) k
theorem e_istore {i : Nat} {x : Int32} (hd : decode cc pc = .ok (.istore i, 2)) (hs : LSet i (some (.int x)) ls ls') (hn : i < X.2.2.1) (k : E cc X Qf Qx kc ks (pc + 2) ls' rest M) : E cc X Qf Qx kc ks pc ls (.int x :: rest) M :=
  E.go (fun n h1 h2 => ⟨hs.wf h1 (by exact trivial), wfS_tl h2⟩) (fun hK hL _ k => lv_istore hK.1 hK.2.1 hd hL.has hn rfl (fun _ h' => k _ (Lv.set1 (GC.c2 hK.2.2.2.2.2.2.2.2.2.1.2.2.1) hL hs h'))) k
theorem e_astore_n {f : Fin 4} {v : Value} (hd : decode cc pc = .ok (.astore_n f, 1)) (i : Nat) (hi : (f : Nat) = i) (hs : LSet i (some (v)) ls ls') (hn : i < X.2.2.1) (hv : isRf v = true) (k : E cc X Qf Qx kc ks (pc + 1) ls' rest M) : E cc X Qf Qx kc ks pc ls (v :: rest) M :=
  E.go (fun n h1 h2 => ⟨hs.wf h1 (wfS_hd h2), wfS_tl h2⟩) (fun {p l e s m args below meth c D dA cs A ad H locs lsA R Q} hK hL _ k => by
    have hk := fun lsA' h' => k lsA' (Lv.set1 (GC.c2 hK.2.2.2.2.2.2.2.2.2.1.2.2.1) hL hs h')
    rw [List.map_cons]
    rcases rnV_rf (ad := ad) hK.2.2.2.2.2.2.2.2.2.1.2.2.1 hv with e1 | ⟨a, e1⟩
    · rw [e1] at hk ⊢; exact lv_astore_nN hK.1 hK.2.1 hd hi hL.has hn rfl hk
    · rw [e1] at hk ⊢; exact lv_astore_n hK.1 hK.2.1 hd hi hL.has hn rfl hk) k
theorem e_astore {i : Nat} {v : Value} (hd : decode cc pc = .ok (.astore i, 2)) (hs : LSet i (some (v)) ls ls') (hn : i < X.2.2.1) (hv : isRf v = true) (k : E cc X Qf Qx kc ks (pc + 2) ls' rest M) : E cc X Qf Qx kc ks pc ls (v :: rest) M :=
  E.go (fun n h1 h2 => ⟨hs.wf h1 (wfS_hd h2), wfS_tl h2⟩) (fun {p l e s m args below meth c D dA cs A ad H locs lsA R Q} hK hL _ k => by
    have hk := fun lsA' h' => k lsA' (Lv.set1 (GC.c2 hK.2.2.2.2.2.2.2.2.2.1.2.2.1) hL hs h')
    rw [List.map_cons]
    rcases rnV_rf (ad := ad) hK.2.2.2.2.2.2.2.2.2.1.2.2.1 hv with e1 | ⟨a, e1⟩
    · rw [e1] at hk ⊢; exact lv_astoreN hK.1 hK.2.1 hd hL.has hn rfl hk
    · rw [e1] at hk ⊢; exact lv_astore hK.1 hK.2.1 hd hL.has hn rfl hk) k
/-- the second half of a long -/
def LN (i : Nat) (ls ls' : List (Option Value)) : Prop := ls' = ls.set i none
theorem ln_0 {a : Option Value} {l : List (Option Value)} : LN 0 (a :: l) (none :: l) := rfl
theorem ln_s {i : Nat} {a : Option Value} {l l' : List (Option Value)} (h : LN i l l') : LN (i + 1) (a :: l) (a :: l') := by rw [LN] at h; rw [h]; rfl
theorem wfL_set {n i : Nat} (h : wfL n ls) : wfL n (ls.set i none) := by
  intro w hw
  rcases List.mem_or_eq_of_mem_set hw with h1 | h1
  · exact h w h1
  · cases h1
theorem e_lstore_n {f : Fin 4} {x : Int64} {l1 : List (Option Value)} (hd : decode cc pc = .ok (.lstore_n f, 1)) (i : Nat) (hi : (f : Nat) = i) (hs : LSet i (some (.long x)) ls l1) (hs2 : LN (i + 1) l1 ls') (hn : i + 1 < X.2.2.1) (k : E cc X Qf Qx kc ks (pc + 1) ls' rest M) : E cc X Qf Qx kc ks pc ls (.long x :: rest) M :=
  E.go (fun n h1 h2 => ⟨by rw [hs2]; exact wfL_set (hs.wf h1 (by exact trivial)), wfS_tl h2⟩) (fun hK hL _ k => lv_lstore_n hK.1 hK.2.1 hd hi hL.has hn rfl (fun _ h' => k _ (Lv.set2 (GC.c2 hK.2.2.2.2.2.2.2.2.2.1.2.2.1) hL hs hs2 h'))) k
theorem e_lstore {i : Nat} {x : Int64} {l1 : List (Option Value)} (hd : decode cc pc = .ok (.lstore i, 2)) (hs : LSet i (some (.long x)) ls l1) (hs2 : LN (i + 1) l1 ls') (hn : i + 1 < X.2.2.1) (k : E cc X Qf Qx kc ks (pc + 2) ls' rest M) : E cc X Qf Qx kc ks pc ls (.long x :: rest) M :=
  E.go (fun n h1 h2 => ⟨by rw [hs2]; exact wfL_set (hs.wf h1 (by exact trivial)), wfS_tl h2⟩) (fun hK hL _ k => lv_lstore hK.1 hK.2.1 hd hL.has hn rfl (fun _ h' => k _ (Lv.set2 (GC.c2 hK.2.2.2.2.2.2.2.2.2.1.2.2.1) hL hs hs2 h'))) k
theorem e_iinc {i : Nat} {n : Int} {x : Int32} (v : Int32) (hd : decode cc pc = .ok (.iinc i n, 3)) (hl : ls[i]? = some (some (.int x))) (hv : x + Int32.ofInt n = v) (hs : LSet i (some (.int v)) ls ls') (hn : i < X.2.2.1) (k : E cc X Qf Qx kc ks (pc + 3) ls' rest M) : E cc X Qf Qx kc ks pc ls rest M :=
  E.go (fun n h1 h2 => ⟨hs.wf h1 (by exact trivial), h2⟩) (fun {p l e s m args below meth c D dA cs A ad H locs lsA R Q} hK hL _ k => by
    obtain ⟨j, hj⟩ := List.getElem?_of_mem (Lv.mem (ad := ad) (cs := cs) hl)
    exact lv_iinc hK.1 hK.2.1 hd hL.has hj hv hn rfl (fun _ h' => k _ (Lv.set1 (GC.c2 hK.2.2.2.2.2.2.2.2.2.1.2.2.1) hL hs h'))) k
/-- a local is forgotten -/
theorem e_forget {i : Nat} (hs : LN i ls ls') (k : E cc X Qf Qx kc ks pc ls' rest M) : E cc X Qf Qx kc ks pc ls rest M :=
  E.go (fun n h1 h2 => ⟨by rw [hs]; exact wfL_set h1, h2⟩) (fun hK hL _ k => k _ ⟨hL.1, hL.2.1, fun j w hj => by
    rw [hs, List.getElem?_set] at hj
    by_cases e : i = j
    · rw [if_pos e] at hj
      split at hj <;> cases hj
    · rw [if_neg e] at hj
      exact hL.2.2 j w hj⟩) k
theorem E.widen {kc' ks' : Nat} (h1 : kc ≤ kc') (h2 : ks ≤ ks') (k : E cc X Qf Qx kc' ks' pc ls rest M) : E cc X Qf Qx kc ks pc ls rest M :=
  fun p l e s m args below meth c D dA cs A ad0 n0 hK ad H locs lsA ha hn hR => W.widen h1 h2 (k p l e s m args below meth c D dA cs A ad0 n0 hK ad H locs lsA ha hn hR)
end
