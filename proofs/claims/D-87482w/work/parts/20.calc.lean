/-! ===== THE CALCULUS E: a method's walk over a list of cells (references are places in the list); everything of the machine is inside ===== -/
abbrev ACell : Type := (Nat × vp_A) ⊕ (Nat × List Value)
abbrev ACon : Type := (Nat → Int32) ⊕ (Nat → Int64) ⊕ (Nat → UInt32) ⊕ (Nat → UInt64) ⊕ (Nat → Option Nat)
def rnV (ad : Nat → Nat) (cs : Nat → Value) : Value → Value
  | .ref a => .ref (ad a)
  | .retAddr k => cs k
  | .int v => .int v
  | .long v => .long v
  | .float v => .float v
  | .double v => .double v
  | .null => .null
def rnC (ad : Nat → Nat) : ACon → ACon
  | .inl f => .inl f
  | .inr (.inl f) => .inr (.inl f)
  | .inr (.inr (.inl f)) => .inr (.inr (.inl f))
  | .inr (.inr (.inr (.inl f))) => .inr (.inr (.inr (.inl f)))
  | .inr (.inr (.inr (.inr g))) => .inr (.inr (.inr (.inr (fun k => (g k).map ad))))
def rnA (ad : Nat → Nat) (cs : Nat → Value) (dA : Nat → ClassId) : ACell → va_E
  | .inl a => .inl (dA a.1, a.2.1, rnC ad a.2.2)
  | .inr o => .inr (o.1, o.2.map (rnV ad cs))
def rnM (ad : Nat → Nat) (cs : Nat → Value) (dA : Nat → ClassId) (M : List ACell) : va_W := M.mapIdx (fun i c => (ad i, rnA ad cs dA c))
def wfV (n : Nat) : Value → Prop
  | .ref a => a < n
  | _ => True
def wfC (n : Nat) : ACon → Prop
  | .inr (.inr (.inr (.inr g))) => ∀ k a, g k = some a → a < n
  | _ => True
def wfA (n : Nat) : ACell → Prop
  | .inl a => wfC n a.2.2
  | .inr o => ∀ v ∈ o.2, wfV n v
def wfM (M : List ACell) : Prop := ∀ (k : Nat) (c : ACell), M[k]? = some c → wfA M.length c
def wfL (n : Nat) (ls : List (Option Value)) : Prop := ∀ v, some v ∈ ls → wfV n v
def wfS (n : Nat) (st : List Value) : Prop := ∀ v ∈ st, wfV n v
theorem wfV.mono {n n' : Nat} (h : n ≤ n') {v : Value} (hv : wfV n v) : wfV n' v := by
  cases v <;> first | trivial | exact Nat.lt_of_lt_of_le hv h
theorem wfC.mono {n n' : Nat} (h : n ≤ n') {v : ACon} (hv : wfC n v) : wfC n' v := by
  rcases v with f | f | f | f | g
  · trivial
  · trivial
  · trivial
  · trivial
  · exact fun k a e => Nat.lt_of_lt_of_le (hv k a e) h
theorem wfA.mono {n n' : Nat} (h : n ≤ n') {c : ACell} (hc : wfA n c) : wfA n' c := by
  rcases c with a | o
  · exact wfC.mono h hc
  · exact fun v hv => wfV.mono h (hc v hv)
theorem wfL.mono {n n' : Nat} (h : n ≤ n') {ls : List (Option Value)} (hc : wfL n ls) : wfL n' ls := fun v hv => wfV.mono h (hc v hv)
theorem wfS.mono {n n' : Nat} (h : n ≤ n') {ls : List Value} (hc : wfS n ls) : wfS n' ls := fun v hv => wfV.mono h (hc v hv)
theorem rnV.agree {n : Nat} {ad ad' : Nat → Nat} {cs : Nat → Value} (h : ∀ i, i < n → ad' i = ad i) {v : Value} (hv : wfV n v) : rnV ad' cs v = rnV ad cs v := by
  cases v <;> first | rfl | exact congrArg Value.ref (h _ hv)
theorem rnC.agree {n : Nat} {ad ad' : Nat → Nat} (h : ∀ i, i < n → ad' i = ad i) {c : ACon} (hc : wfC n c) : rnC ad' c = rnC ad c := by
  rcases c with f | f | f | f | g
  · rfl
  · rfl
  · rfl
  · rfl
  · show Sum.inr (Sum.inr (Sum.inr (Sum.inr (fun k => (g k).map ad')))) = Sum.inr (Sum.inr (Sum.inr (Sum.inr (fun k => (g k).map ad))))
    have e : (fun k => (g k).map ad') = (fun k => (g k).map ad) := by
      funext k
      cases hk : g k with
      | none => rfl
      | some a => exact congrArg some (h a (hc k a hk))
    rw [e]
theorem rnA.agree {n : Nat} {ad ad' : Nat → Nat} {cs : Nat → Value} {dA : Nat → ClassId} (h : ∀ i, i < n → ad' i = ad i) {c : ACell} (hc : wfA n c) : rnA ad' cs dA c = rnA ad cs dA c := by
  rcases c with a | o
  · show Sum.inl (dA a.1, a.2.1, rnC ad' a.2.2) = Sum.inl (dA a.1, a.2.1, rnC ad a.2.2)
    rw [rnC.agree h hc]
  · show Sum.inr (o.1, o.2.map (rnV ad' cs)) = Sum.inr (o.1, o.2.map (rnV ad cs))
    rw [List.map_congr_left (fun v hv => rnV.agree h (hc v hv))]
theorem rnM_get (ad : Nat → Nat) (cs : Nat → Value) (dA : Nat → ClassId) (M : List ACell) (k : Nat) : (rnM ad cs dA M)[k]? = M[k]?.map (fun c => (ad k, rnA ad cs dA c)) := by
  unfold rnM
  rw [List.getElem?_mapIdx]
theorem rnM_at {ad : Nat → Nat} {cs : Nat → Value} {dA : Nat → ClassId} {M : List ACell} {k : Nat} {c : ACell} (h : M[k]? = some c) : (rnM ad cs dA M)[k]? = some (ad k, rnA ad cs dA c) := by
  rw [rnM_get, h]; rfl
theorem rnM_len (ad : Nat → Nat) (cs : Nat → Value) (dA : Nat → ClassId) (M : List ACell) : (rnM ad cs dA M).length = M.length := by
  unfold rnM; exact List.length_mapIdx
theorem rnM.agree {ad ad' : Nat → Nat} {cs : Nat → Value} {dA : Nat → ClassId} {M : List ACell} (h : ∀ i, i < M.length → ad' i = ad i) (hM : wfM M) : rnM ad' cs dA M = rnM ad cs dA M := by
  refine List.ext_getElem? fun k => ?_
  rw [rnM_get, rnM_get]
  cases hk : M[k]? with
  | none => rfl
  | some c =>
    show some (ad' k, rnA ad' cs dA c) = some (ad k, rnA ad cs dA c)
    rw [rnA.agree h (hM k c hk), h k (List.getElem?_eq_some_iff.mp hk).1]
theorem rnM_set (ad : Nat → Nat) (cs : Nat → Value) (dA : Nat → ClassId) (M : List ACell) (k : Nat) (c : ACell) : (rnM ad cs dA M).set k (ad k, rnA ad cs dA c) = rnM ad cs dA (M.set k c) := by
  refine List.ext_getElem? fun j => ?_
  rw [rnM_get, List.getElem?_set, List.getElem?_set, rnM_len]
  by_cases hj : k = j
  · subst hj
    rw [if_pos rfl, if_pos rfl]
    by_cases hl : k < M.length
    · rw [if_pos hl, if_pos hl]; rfl
    · rw [if_neg hl, if_neg hl]; rfl
  · rw [if_neg hj, if_neg hj, rnM_get]
theorem rnM_push (ad : Nat → Nat) (cs : Nat → Value) (dA : Nat → ClassId) (M : List ACell) (c : ACell) : rnM ad cs dA (M ++ [c]) = rnM ad cs dA M ++ [(ad M.length, rnA ad cs dA c)] := by
  unfold rnM; exact List.mapIdx_concat
theorem wfM.set {M : List ACell} (h : wfM M) {k : Nat} {c : ACell} (hc : wfA M.length c) : wfM (M.set k c) := by
  intro j d hj
  rw [List.length_set]
  rw [List.getElem?_set] at hj
  by_cases e : k = j
  · rw [if_pos e] at hj
    by_cases hl : k < M.length
    · subst e
      rw [if_pos hl] at hj; cases hj; exact hc
    · subst e
      rw [if_neg hl] at hj; cases hj
  · rw [if_neg e] at hj; exact h j d hj
theorem wfM.push {M : List ACell} (h : wfM M) {c : ACell} (hc : wfA (M.length + 1) c) : wfM (M ++ [c]) := by
  intro j d hj
  rw [List.length_append]
  show wfA (M.length + 1) d
  by_cases hl : j < M.length
  · rw [List.getElem?_append_left hl] at hj
    exact wfA.mono (Nat.le_succ _) (h j d hj)
  · rw [List.getElem?_append_right (by omega)] at hj
    have hz : j - M.length < 1 := (List.getElem?_eq_some_iff.mp hj).1
    rw [show j - M.length = 0 by omega] at hj
    cases hj
    exact hc
theorem rnV_cat {ad : Nat → Nat} {cs : Nat → Value} (hcs : ∀ k, (cs k).category = 1) (v : Value) : (rnV ad cs v).category = v.category := by
  cases v <;> first | rfl | exact hcs _
theorem rnV_cats {ad : Nat → Nat} {cs : Nat → Value} (hcs : ∀ k, (cs k).category = 1) (st : List Value) : ((st.map (rnV ad cs)).map fun v => v.category).sum = (st.map fun v => v.category).sum := by
  rw [List.map_map]
  exact congrArg List.sum (List.map_congr_left (fun v _ => rnV_cat hcs v))
/-! the claim's classes, array types and words -/
def glC : List vw_C := [(RX0, TX0, 57), (RX1, TX1, 8), (RX2, TX2, 8), (RX3, TX3, 2), (RX4, TX4, 99), (RX5, TX5, 11), (RX6, TX6, 1), (RX7, TX7, 5)]
def glT (dA : Nat → ClassId) : List (ClassId × FieldType) := [(dA 0, .int), (dA 1, .long), (dA 2, .byte), (dA 3, .short), (dA 4, .boolean), (dA 5, .array .int), (dA 6, .object RX3), (dA 7, .object RX5), (dA 8, .object RX6), (dA 9, .object RX7)]
/-- words of the tables that don't ride in the lists: nest mates' links -/
def glN (w : Cond) : Bool := match w with
  | .fieldLinkNest _ _ _ _ _ _ => true
  | .methodLinkNest _ _ _ _ => true
  | .castable _ _ => true
  | .declares _ => true
  | _ => false
/-! the constants of the start: the Reader's strings, Throwable's statics -/
def glLen : List Nat := [35, 2, 2, 4]
def glByt : List (List Int32) := [[32, 112, 117, 116, 32, 97, 100, 100, 32, 115, 117, 98, 32, 109, 117, 108, 32, 100, 105, 118, 32, 112, 114, 105, 110, 116, 32, 98, 97, 99, 107, 32, 111, 110, 32], [105, 102], [117, 112], [100, 111, 119, 110]]
def GS (cs : Nat → Value) (A : Nat → Prop) (U : State) (H : Heap) : Prop :=
  vx_Zq Bundle.tN "UNASSIGNED_STACK" Bundle.steD A U H ∧ vx_Zq Bundle.tN "SUPPRESSED_SENTINEL" Bundle.listD A U H ∧ va_Z Bundle.tN "UNASSIGNED_STACK" Bundle.steD (cs 10) A U H ∧ va_Z Bundle.tN "SUPPRESSED_SENTINEL" Bundle.listD (cs 11) A U H ∧
  va_Z "java/lang/String" "COMPACT_STRINGS" "Z" (.int 1) A U H ∧ va_Z "jdk/internal/util/Preconditions" "SIOOBE_FORMATTER" "Ljava/util/function/BiFunction;" (cs 12) A U H ∧
  ∃ adK adV : Nat → Nat, ((∀ j, j < 4 → cs j = .ref (adK j)) ∧ ∀ j, j < 4 → cs (20 + j) = .ref (adV j)) ∧ vk_S 4 glLen glByt adK adV A U H ∧ vk_R RX2 83 " put add sub mul div print back on " (adK 0) U ∧ vk_R RX2 128 "if" (adK 1) U ∧ vk_R RX2 133 "up" (adK 2) U ∧ vk_R RX2 135 "down" (adK 3) U
theorem GS.same {cs : Nat → Value} {A : Nat → Prop} {u U : State} {H : Heap} (hvm : u.vm = U.vm) (h : GS cs A u H) : GS cs A U H := by
  obtain ⟨h1, h2, h3, h4, z1, z2, adK, adV, h5, h6, h7, h8, h9, h10⟩ := h
  have hal : u.vm.Alike U.vm := by rw [hvm]; exact Vm.Alike.refl U.vm
  exact ⟨h1.moved hal, h2.moved hal, h3.moved hal, h4.moved hal, z1.moved hal, z2.moved hal, adK, adV, h5, h6.moved hal, vk_R.same hvm.symm h7, vk_R.same hvm.symm h8, vk_R.same hvm.symm h9, vk_R.same hvm.symm h10⟩
theorem GS.warm {cs : Nat → Value} {A B : Nat → Prop} {u U : State} {H H1 : Heap} (hW : u.WarmedH U.vm) (h : GS cs A u H) (hq : ∀ a : Nat, a < H.size → ¬ A a → H1[a]? = H[a]?) (hAB : ∀ q, B q → A q) : GS cs B U H1 := by
  obtain ⟨h1, h2, h3, h4, z1, z2, adK, adV, h5, h6, h7, h8, h9, h10⟩ := h
  have hal : u.vm.Alike U.vm := hW.alike
  exact ⟨((h1.moved hal).kept hq).narrow hAB, ((h2.moved hal).kept hq).narrow hAB, ((h3.moved hal).kept hq).narrow hAB, ((h4.moved hal).kept hq).narrow hAB, ((z1.moved hal).kept hq).narrow hAB, ((z2.moved hal).kept hq).narrow hAB, adK, adV, h5, ((h6.moved hal).kept hq).narrow hAB, h7.warm hW, h8.warm hW, h9.warm hW, h10.warm hW⟩
/-- the array class of rows of ints -/
def va_AI (U : State) : Prop := (Cond.arrayOver (.array .int)).before #[] U = true
theorem va_AI.moved {u U : State} (hvm : u.vm.Alike U.vm) (h : va_AI u) : va_AI U := by
  have hi : ∀ comp : ClassId, (U.vm.classes.findIdx? fun (x : Class) => match x.kind with | .array component _ => component == comp | _ => false) = (u.vm.classes.findIdx? fun (x : Class) => match x.kind with | .array component _ => component == comp | _ => false) := by
    intro comp
    have hb : U.vm.bare = u.vm.bare := by first | rw [hvm.bare_eq] | rw [← hvm.bare_eq]
    exact ((va_idx_bare U.vm comp).symm.trans (by rw [hb])).trans (va_idx_bare u.vm comp)
  unfold va_AI Cond.before Cond.holds at h ⊢
  simp only [Cond.value] at h ⊢
  rw [hvm.findClass, hvm.findClass]
  cases hc : u.vm.findClass (FieldType.array .int).toString with
  | none => rw [hc] at h; exact absurd h (by simp)
  | some comp =>
    rw [hc, Option.bind_some] at h
    rw [Option.bind_some]
    cases hx : (u.vm.classes.findIdx? fun (x : Class) => match x.kind with | .array component _ => component == comp | _ => false) with
    | none => exact absurd ((congrArg (fun o : Option Nat => (o.bind (fun c => (u.vm.classes[c]?).map fun (k : Class) => match k.kind with | .array _ ty => decide (ty = FieldType.array .int) && decide (u.vm.findClass ("[" ++ (FieldType.array .int).toString) = some c) | _ => false) == some true)) hx).symm.trans h) (by simp)
    | some c =>
      have h2 := (congrArg (fun o : Option Nat => (o.bind (fun c => (u.vm.classes[c]?).map fun (k : Class) => match k.kind with | .array _ ty => decide (ty = FieldType.array .int) && decide (u.vm.findClass ("[" ++ (FieldType.array .int).toString) = some c) | _ => false) == some true)) hx).symm.trans h
      refine (congrArg (fun o : Option Nat => (o.bind (fun c => (U.vm.classes[c]?).map fun (k : Class) => match k.kind with | .array _ ty => decide (ty = FieldType.array .int) && decide (u.vm.findClass ("[" ++ (FieldType.array .int).toString) = some c) | _ => false) == some true)) ((hi comp).trans hx)).trans ?_
      cases hk : u.vm.classes[c]? with
      | none => simp [hk] at h2
      | some k =>
        obtain ⟨k', hk', he⟩ := hvm.2.2 _ _ hk
        have hke : k'.kind = k.kind := by rw [he]
        simp [hk] at h2
        simp [hk', hke]
        exact h2
def GX (D : va_G) (dA : Nat → ClassId) (cs : Nat → Value) (A : Nat → Prop) (U : State) (H : Heap) : Prop :=
  va_K D glC (glT dA) U ∧ (∀ w ∈ lw_tbl, glN w = true → va_Nw w U) ∧ (∀ k, cs k = .null ∨ ∃ a, cs k = .ref a) ∧ va_AO RX3 U ∧ va_AO RX5 U ∧ va_AO RX6 U ∧ va_AO RX7 U ∧ GS cs A U H ∧ va_AI U ∧ va_Nc "java/lang/ArrayIndexOutOfBoundsException" "java/lang/NullPointerException" U
theorem glN_tab {w : Cond} (h : glN w = true) : w.onTables = true := by
  cases w <;> first | rfl | cases h
theorem GX.same {D : va_G} {dA : Nat → ClassId} {cs : Nat → Value} {A : Nat → Prop} {u U : State} {H : Heap} (hvm : u.vm = U.vm) (h : GX D dA cs A u H) : GX D dA cs A U H := by
  obtain ⟨h1, h2, h3, h4, h5, h6, h7, h8, h9, h10⟩ := h
  have hal : u.vm.Alike U.vm := by rw [hvm]; exact Vm.Alike.refl U.vm
  exact ⟨va_K.moved hal h1, fun w hw hg => va_Nw.same (glN_tab hg) hvm (h2 w hw hg), h3, h4.moved hal, h5.moved hal, h6.moved hal, h7.moved hal, h8.same hvm, h9.moved hal, h10.moved hal⟩
theorem GX.warm {D : va_G} {dA : Nat → ClassId} {cs : Nat → Value} {A B : Nat → Prop} {u U : State} {H H1 : Heap} (hW : u.WarmedH U.vm) (h : GX D dA cs A u H) (hq : ∀ a : Nat, a < H.size → ¬ A a → H1[a]? = H[a]?) (hAB : ∀ q, B q → A q) : GX D dA cs B U H1 := by
  obtain ⟨h1, h2, h3, h4, h5, h6, h7, h8, h9, h10⟩ := h
  have hal : u.vm.Alike U.vm := hW.alike
  refine ⟨va_K.moved hal h1, fun w hw hg => ?_, h3, h4.moved hal, h5.moved hal, h6.moved hal, h7.moved hal, h8.warm hW hq hAB, h9.moved hal, h10.moved hal⟩
  have hz := h2 w hw hg
  cases w <;> first | (cases hg; done) | exact va_Nw.warmF hW hz | exact va_Nw.warmM hW hz | exact va_Nw.warmC hW hz | exact va_Nw.warmD hW hz
/-! the room of a method, d calls deep at most -/
def rmD (d mc ms : Nat) : Room := { frames := 16 + d, locals := 10400 + 64 * d, cells := mc, slots := ms }
/-- a method's fixed things: its class, its answer's type, its locals, depth, cells and slots that it may make, is it a constructor, its handlers -/
abbrev Cx : Type := String × Option FieldType × Nat × Nat × (Nat × Nat) × Bool × List (Nat × Nat × Nat × Nat)
def Kx (X : Cx) (cc : ByteArray) (p : Program) (l : Launch) (s : State) (m : MethodId) (args : Array Value) (meth : Method) (c : Code) (D : va_G) (dA : Nat → ClassId) (cs : Nat → Value) (A : Nat → Prop) : Prop :=
  p.tables.exec = Jvm.exec ∧ c.code = cc ∧ meth.sig.returnType = X.2.1 ∧ c.maxLocals = X.2.2.1 ∧ s.vm.findClass X.1 = some m.cls ∧ (∀ w ∈ lw_all, w.before args s = true) ∧ meth.locks = false ∧ (X.2.2.2.2.2.1 = true → meth.name = "<init>") ∧ (∀ q, s.heap.size ≤ q → A q) ∧ GX D dA cs A s s.heap ∧ l.stackTraces = false ∧ c.exceptionTable.toList = tableOf X.2.2.2.2.2.2
def Lv (lsA : Array Slot) (nL : Nat) (ad : Nat → Nat) (cs : Nat → Value) (ls : List (Option Value)) : Prop := lsA.size = nL ∧ lv_wf lsA ∧ ∀ (i : Nat) (v : Value), ls[i]? = some (some v) → lsA[i]? = some (.val (rnV ad cs v))
def Rl (X : Cx) (s : State) (D : va_G) (dA : Nat → ClassId) (cs : Nat → Value) (A : Nat → Prop) (ad : Nat → Nat) (H : Heap) (locs : List Loc) (lsA : Array Slot) (ls : List (Option Value)) (st : List Value) (M : List ACell) : Prop :=
  va_P D glC (rnM ad cs dA M) H ∧ va_D A (rnM ad cs dA M) ∧ va_S A s.heap H locs ∧ Lv lsA X.2.2.1 ad cs ls ∧ wfM M ∧ wfL M.length ls ∧ wfS M.length st
abbrev Qfun : Type := Option Value → List ACell → Prop
abbrev Qxun : Type := String → Option Nat → List ACell → Prop
def QcF (Qf : Qfun) (D : va_G) (dA : Nat → ClassId) (cs : Nat → Value) (A : Nat → Prop) (ad0 : Nat → Nat) (n0 : Nat) : Array Value → State → Outcome → State → Prop := fun _ st oc t =>
  (∃ (v : Option Value) (M' : List ACell) (ad' : Nat → Nat), oc = .returned (v.map (rnV ad' cs)) ∧ Qf v M' ∧ (∀ i, i < n0 → ad' i = ad0 i) ∧ n0 ≤ M'.length ∧ va_P D glC (rnM ad' cs dA M') t.heap ∧ va_D A (rnM ad' cs dA M') ∧ wfM M' ∧ (∀ w, v = some w → wfV M'.length w)) ∧ va_F A st t
def XcF (Qx : Qxun) (D : va_G) (dA : Nat → ClassId) (cs : Nat → Value) (A : Nat → Prop) (ad0 : Nat → Nat) (n0 : Nat) : String → Addr → State → State → Prop := fun E q st t =>
  (∃ (w : Option Nat) (M' : List ACell) (ad' : Nat → Nat), Qx E w M' ∧ (∀ i, i < n0 → ad' i = ad0 i) ∧ n0 ≤ M'.length ∧ va_P D glC (rnM ad' cs dA M') t.heap ∧ va_D A (rnM ad' cs dA M') ∧ wfM M' ∧ (∀ i, w = some i → q = ad' i ∧ i < M'.length)) ∧ va_F A st t
/-- what a method's end owes the machine -/
def QF (Qf : Qfun) (Qx : Qxun) (below : List Frame) (args : Array Value) (s : State) (D : va_G) (dA : Nat → ClassId) (cs : Nat → Value) (A : Nat → Prop) (ad0 : Nat → Nat) (n0 mc ms : Nat) : State → Prop :=
  vx_MQ below (QcF Qf D dA cs A ad0 n0) (XcF Qx D dA cs A ad0 n0) args s mc ms A
def E (cc : ByteArray) (X : Cx) (Qf : Qfun) (Qx : Qxun) (kc ks pc : Nat) (ls : List (Option Value)) (st : List Value) (M : List ACell) : Prop :=
  ∀ (p : Program) (l : Launch) (e : Env) (s : State) (m : MethodId) (args : Array Value) (below : List Frame) (meth : Method) (c : Code) (D : va_G) (dA : Nat → ClassId) (cs : Nat → Value) (A : Nat → Prop) (ad0 : Nat → Nat) (n0 : Nat),
    Kx X cc p l s m args meth c D dA cs A → ∀ (ad : Nat → Nat) (H : Heap) (locs : List Loc) (lsA : Array Slot), (∀ i, i < n0 → ad i = ad0 i) → n0 ≤ M.length → Rl X s D dA cs A ad H locs lsA ls st M →
    W p l e (rmD X.2.2.2.1 X.2.2.2.2.1.1 X.2.2.2.2.1.2) s m args below meth c H locs kc ks (QF Qf Qx below args s D dA cs A ad0 n0 X.2.2.2.2.1.1 X.2.2.2.2.1.2) (F0 m pc lsA (st.map (rnV ad cs)))
/-- the same with an exception thrown at pc -/
def EX (cc : ByteArray) (X : Cx) (Qf : Qfun) (Qx : Qxun) (kc ks pc : Nat) (ls : List (Option Value)) (cls : String) (w : Option Nat) (M : List ACell) : Prop :=
  ∀ (p : Program) (l : Launch) (e : Env) (s : State) (m : MethodId) (args : Array Value) (below : List Frame) (meth : Method) (c : Code) (D : va_G) (dA : Nat → ClassId) (cs : Nat → Value) (A : Nat → Prop) (ad0 : Nat → Nat) (n0 : Nat),
    Kx X cc p l s m args meth c D dA cs A → ∀ (ad : Nat → Nat) (H : Heap) (locs : List Loc) (lsA : Array Slot) (q : Addr) (ce : Cell) (rest : List Value), (∀ i, i < n0 → ad i = ad0 i) → n0 ≤ M.length → Rl X s D dA cs A ad H locs lsA ls [] M →
    H[q]? = some ce → ce.vm = .none → s.vm.findClass cls = some ce.cls → (∀ i, w = some i → q = ad i ∧ i < M.length) →
    vx_W p l e (rmD X.2.2.2.1 X.2.2.2.2.1.1 X.2.2.2.2.1.2) s m args below meth c H locs kc ks (QF Qf Qx below args s D dA cs A ad0 n0 X.2.2.2.2.1.1 X.2.2.2.2.1.2) (F0 m pc lsA rest) q
