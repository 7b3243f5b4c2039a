/-! ===== rows of the calculus: arrays ===== -/
section
variable {cc : ByteArray} {X : Cx} {Qf : Qfun} {Qx : Qxun} {kc ks pc : Nat} {ls ls' : List (Option Value)} {rest : List Value} {M : List ACell}
theorem vp_of {i : Int32} {j n : Nat} (hi : i = nI j) (hj : j < n) (hn : n < 2147483648) : vp_in i n ∧ i.toNatClampNeg = j := by
  subst hi
  exact ⟨vp_in_nI hj hn, nI_clamp (by omega)⟩
/-- reading a cell that is an array: the heap stays -/
theorem E.rd {st st' : List Value} {pc' : Nat} (hwf : ∀ n, wfM M → n = M.length → wfS n st → wfS n st')
    (hs : ∀ {p : Program} {l : Launch} {e : Env} {s : State} {m : MethodId} {args : Array Value} {below : List Frame} {meth : Method} {c : Code} {D : va_G} {dA : Nat → ClassId} {cs : Nat → Value} {A : Nat → Prop} {ad : Nat → Nat} {H : Heap} {locs : List Loc} {lsA : Array Slot} {R : Room} {Q : State → Prop},
      Kx X cc p l s m args meth c D dA cs A → va_P D glC (rnM ad cs dA M) H → W p l e R s m args below meth c H locs kc ks Q (F0 m pc' lsA (st'.map (rnV ad cs))) → W p l e R s m args below meth c H locs kc ks Q (F0 m pc lsA (st.map (rnV ad cs))))
    (k : E cc X Qf Qx kc ks pc' ls st' M) : E cc X Qf Qx kc ks pc ls st M := by
  intro p l e s m args below meth c D dA cs A ad0 n0 hK ad H locs lsA ha hn hR
  obtain ⟨r1, r2, r3, r4, r5, r6, r7⟩ := hR
  exact hs hK r1 (k p l e s m args below meth c D dA cs A ad0 n0 hK ad H locs lsA ha hn ⟨r1, r2, r3, r4, r5, r6, hwf _ r5 rfl r7⟩)
theorem e_iald {a n j : Nat} {f : Nat → Int32} {i : Int32} (hd : decode cc pc = .ok (.iaload, 1)) (hM : M[a]? = some (.inl (0, n, .inl f))) (hi : i = nI j) (hj : j < n) (hn : n < 2147483648) (k : E cc X Qf Qx kc ks (pc + 1) ls (.int (f j) :: rest) M) : E cc X Qf Qx kc ks pc ls (.int i :: .ref a :: rest) M :=
  E.rd (fun n _ _ h => wfS_cons (by exact trivial) (wfS_tl (wfS_tl h))) (fun hK hP k => by
    obtain ⟨h1, h2⟩ := vp_of hi hj hn
    exact va_iald hK.1 hK.2.1 hK.2.2.2.2.2.2.2.2.2.1.1 hP a 0 (rnM_at hM) rfl h1 hd (by rw [h2]; exact k)) k
theorem e_lald {a n j : Nat} {f : Nat → Int64} {i : Int32} (hd : decode cc pc = .ok (.laload, 1)) (hM : M[a]? = some (.inl (1, n, .inr (.inl f)))) (hi : i = nI j) (hj : j < n) (hn : n < 2147483648) (k : E cc X Qf Qx kc ks (pc + 1) ls (.long (f j) :: rest) M) : E cc X Qf Qx kc ks pc ls (.int i :: .ref a :: rest) M :=
  E.rd (fun n _ _ h => wfS_cons (by exact trivial) (wfS_tl (wfS_tl h))) (fun hK hP k => by
    obtain ⟨h1, h2⟩ := vp_of hi hj hn
    exact va_lald hK.1 hK.2.1 hK.2.2.2.2.2.2.2.2.2.1.1 hP a 1 (rnM_at hM) rfl h1 hd (by rw [h2]; exact k)) k
theorem e_bald {a n j : Nat} {f : Nat → Int32} {i : Int32} (hd : decode cc pc = .ok (.baload, 1)) (hM : M[a]? = some (.inl (2, n, .inl f))) (hi : i = nI j) (hj : j < n) (hn : n < 2147483648) (k : E cc X Qf Qx kc ks (pc + 1) ls (.int (f j) :: rest) M) : E cc X Qf Qx kc ks pc ls (.int i :: .ref a :: rest) M :=
  E.rd (fun n _ _ h => wfS_cons (by exact trivial) (wfS_tl (wfS_tl h))) (fun hK hP k => by
    obtain ⟨h1, h2⟩ := vp_of hi hj hn
    exact va_bald hK.1 hK.2.1 hK.2.2.2.2.2.2.2.2.2.1.1 hP a 2 (rnM_at hM) rfl h1 hd (by rw [h2]; exact k)) k
theorem e_zald {a n j : Nat} {f : Nat → Int32} {i : Int32} (hd : decode cc pc = .ok (.baload, 1)) (hM : M[a]? = some (.inl (4, n, .inl f))) (hi : i = nI j) (hj : j < n) (hn : n < 2147483648) (k : E cc X Qf Qx kc ks (pc + 1) ls (.int (f j) :: rest) M) : E cc X Qf Qx kc ks pc ls (.int i :: .ref a :: rest) M :=
  E.rd (fun n _ _ h => wfS_cons (by exact trivial) (wfS_tl (wfS_tl h))) (fun hK hP k => by
    obtain ⟨h1, h2⟩ := vp_of hi hj hn
    exact va_zald hK.1 hK.2.1 hK.2.2.2.2.2.2.2.2.2.1.1 hP a 4 (rnM_at hM) rfl h1 hd (by rw [h2]; exact k)) k
theorem e_sald {a n j : Nat} {f : Nat → Int32} {i : Int32} (hd : decode cc pc = .ok (.saload, 1)) (hM : M[a]? = some (.inl (3, n, .inl f))) (hi : i = nI j) (hj : j < n) (hn : n < 2147483648) (k : E cc X Qf Qx kc ks (pc + 1) ls (.int (f j) :: rest) M) : E cc X Qf Qx kc ks pc ls (.int i :: .ref a :: rest) M :=
  E.rd (fun n _ _ h => wfS_cons (by exact trivial) (wfS_tl (wfS_tl h))) (fun hK hP k => by
    obtain ⟨h1, h2⟩ := vp_of hi hj hn
    exact va_sald hK.1 hK.2.1 hK.2.2.2.2.2.2.2.2.2.1.1 hP a 3 (rnM_at hM) rfl h1 hd (by rw [h2]; exact k)) k
/-- a place of an array of references -/
def rfO (o : Option Nat) : Value := match o with
  | some a => .ref a
  | none => .null
theorem rnV_rfO (ad : Nat → Nat) (cs : Nat → Value) (o : Option Nat) : rnV ad cs (rfO o) = va_rf (o.map ad) := by
  cases o <;> rfl
theorem isRf_rfO (o : Option Nat) : isRf (rfO o) = true := by cases o <;> rfl
theorem e_aald {a n j t : Nat} {C : String} {f : Nat → Option Nat} {i : Int32} (hd : decode cc pc = .ok (.aaload, 1)) (hM : M[a]? = some (.inl (t, n, .inr (.inr (.inr (.inr f)))))) (ht : ∀ dA, (glT dA)[t]? = some (dA t, .object C)) (hi : i = nI j) (hj : j < n) (hn : n < 2147483648) (k : E cc X Qf Qx kc ks (pc + 1) ls (rfO (f j) :: rest) M) : E cc X Qf Qx kc ks pc ls (.int i :: .ref a :: rest) M :=
  E.rd (fun n hw hn h => wfS_cons (by
      subst hn
      cases hf : f j with
      | none => trivial
      | some b => exact hw a _ hM j b hf) (wfS_tl (wfS_tl h))) (fun {p l e s m args below meth c D dA cs A ad H locs lsA R Q} hK hP k => by
    obtain ⟨h1, h2⟩ := vp_of hi hj hn
    rw [List.map_cons, rnV_rfO] at k
    exact va_aldq hK.1 hK.2.1 hK.2.2.2.2.2.2.2.2.2.1.1 hP a t (rnM_at hM) (ht dA) h1 hd (by rw [h2]; exact k)) k
theorem e_alen {a t n : Nat} {c : ACon} {v : Int32} {ty : FieldType} (hd : decode cc pc = .ok (.arraylength, 1)) (hM : M[a]? = some (.inl (t, n, c))) (ht : ∀ dA, (glT dA)[t]? = some (dA t, ty)) (hv : Int32.ofNat n = v) (k : E cc X Qf Qx kc ks (pc + 1) ls (.int v :: rest) M) : E cc X Qf Qx kc ks pc ls (.ref a :: rest) M :=
  E.rd (fun n _ _ h => wfS_cons (by exact trivial) (wfS_tl h)) (fun {p l e s m args below meth c D dA cs A ad H locs lsA R Q} hK hP k => by
    exact va_alen hK.1 hK.2.1 hK.2.2.2.2.2.2.2.2.2.1.1 hP a t (rnM_at hM) (ht dA) hv hd k) k
/-- writing a cell -/
theorem E.wr {st st' : List Value} {pc' a : Nat} {c' : ACell} (hwf : ∀ n, wfM M → n = M.length → wfS n st → wfS n st' ∧ wfA n c')
    (hs : ∀ {p : Program} {l : Launch} {e : Env} {s : State} {m : MethodId} {args : Array Value} {below : List Frame} {meth : Method} {c : Code} {D : va_G} {dA : Nat → ClassId} {cs : Nat → Value} {A : Nat → Prop} {ad : Nat → Nat} {H : Heap} {locs : List Loc} {lsA : Array Slot} {R : Room} {Q : State → Prop},
      Kx X cc p l s m args meth c D dA cs A → va_P D glC (rnM ad cs dA M) H → va_D A (rnM ad cs dA M) → va_S A s.heap H locs →
      (∀ (H1 : Heap) (locs1 : List Loc), va_P D glC ((rnM ad cs dA M).set a (ad a, rnA ad cs dA c')) H1 → va_D A ((rnM ad cs dA M).set a (ad a, rnA ad cs dA c')) → va_S A s.heap H1 locs1 → W p l e R s m args below meth c H1 locs1 kc ks Q (F0 m pc' lsA (st'.map (rnV ad cs)))) → W p l e R s m args below meth c H locs kc ks Q (F0 m pc lsA (st.map (rnV ad cs))))
    (k : E cc X Qf Qx kc ks pc' ls st' (M.set a c')) : E cc X Qf Qx kc ks pc ls st M := by
  intro p l e s m args below meth c D dA cs A ad0 n0 hK ad H locs lsA ha hn hR
  have hR0 := hR
  obtain ⟨r1, r2, r3, r4, r5, r6, r7⟩ := hR
  obtain ⟨w1, w2⟩ := hwf _ r5 rfl r7
  exact hs hK r1 r2 r3 (fun H1 locs1 h1 h2 h3 => k p l e s m args below meth c D dA cs A ad0 n0 hK ad H1 locs1 lsA ha (by rw [List.length_set]; exact hn) (hR0.upd h1 h2 h3 w2 w1))
theorem e_iast {a n j : Nat} {f : Nat → Int32} {i x : Int32} (hd : decode cc pc = .ok (.iastore, 1)) (hM : M[a]? = some (.inl (0, n, .inl f))) (hi : i = nI j) (hj : j < n) (hn : n < 2147483648) (k : E cc X Qf Qx kc ks (pc + 1) ls rest (M.set a (.inl (0, n, .inl (upd f j x))))) : E cc X Qf Qx kc ks pc ls (.int x :: .int i :: .ref a :: rest) M :=
  E.wr (fun n _ _ h => ⟨wfS_tl (wfS_tl (wfS_tl h)), by exact trivial⟩) (fun hK hP hD hS k => by
    obtain ⟨h1, h2⟩ := vp_of hi hj hn
    exact va_iast hK.1 hK.2.1 hK.2.2.2.2.2.2.2.2.2.1.1 hP hD hS a 0 (rnM_at hM) rfl h1 hd (by rw [h2]; exact k)) k
theorem e_last {a n j : Nat} {f : Nat → Int64} {i : Int32} {x : Int64} (hd : decode cc pc = .ok (.lastore, 1)) (hM : M[a]? = some (.inl (1, n, .inr (.inl f)))) (hi : i = nI j) (hj : j < n) (hn : n < 2147483648) (k : E cc X Qf Qx kc ks (pc + 1) ls rest (M.set a (.inl (1, n, .inr (.inl (vp_updL f j x)))))) : E cc X Qf Qx kc ks pc ls (.long x :: .int i :: .ref a :: rest) M :=
  E.wr (fun n _ _ h => ⟨wfS_tl (wfS_tl (wfS_tl h)), by exact trivial⟩) (fun hK hP hD hS k => by
    obtain ⟨h1, h2⟩ := vp_of hi hj hn
    exact va_last hK.1 hK.2.1 hK.2.2.2.2.2.2.2.2.2.1.1 hP hD hS a 1 (rnM_at hM) rfl h1 hd (by rw [h2]; exact k)) k
theorem e_bast {a n j : Nat} {f : Nat → Int32} {i x : Int32} (hd : decode cc pc = .ok (.bastore, 1)) (hM : M[a]? = some (.inl (2, n, .inl f))) (hi : i = nI j) (hj : j < n) (hn : n < 2147483648) (k : E cc X Qf Qx kc ks (pc + 1) ls rest (M.set a (.inl (2, n, .inl (upd f j (vp_nar .byte x)))))) : E cc X Qf Qx kc ks pc ls (.int x :: .int i :: .ref a :: rest) M :=
  E.wr (fun n _ _ h => ⟨wfS_tl (wfS_tl (wfS_tl h)), by exact trivial⟩) (fun hK hP hD hS k => by
    obtain ⟨h1, h2⟩ := vp_of hi hj hn
    exact va_bast hK.1 hK.2.1 hK.2.2.2.2.2.2.2.2.2.1.1 hP hD hS a 2 (rnM_at hM) rfl h1 hd (by rw [h2]; exact k)) k
theorem e_zast {a n j : Nat} {f : Nat → Int32} {i x : Int32} (hd : decode cc pc = .ok (.bastore, 1)) (hM : M[a]? = some (.inl (4, n, .inl f))) (hi : i = nI j) (hj : j < n) (hn : n < 2147483648) (k : E cc X Qf Qx kc ks (pc + 1) ls rest (M.set a (.inl (4, n, .inl (upd f j (vp_nar .boolean x)))))) : E cc X Qf Qx kc ks pc ls (.int x :: .int i :: .ref a :: rest) M :=
  E.wr (fun n _ _ h => ⟨wfS_tl (wfS_tl (wfS_tl h)), by exact trivial⟩) (fun hK hP hD hS k => by
    obtain ⟨h1, h2⟩ := vp_of hi hj hn
    exact va_zast hK.1 hK.2.1 hK.2.2.2.2.2.2.2.2.2.1.1 hP hD hS a 4 (rnM_at hM) rfl h1 hd (by rw [h2]; exact k)) k
theorem e_sast {a n j : Nat} {f : Nat → Int32} {i x : Int32} (hd : decode cc pc = .ok (.sastore, 1)) (hM : M[a]? = some (.inl (3, n, .inl f))) (hi : i = nI j) (hj : j < n) (hn : n < 2147483648) (k : E cc X Qf Qx kc ks (pc + 1) ls rest (M.set a (.inl (3, n, .inl (upd f j (vp_nar .short x)))))) : E cc X Qf Qx kc ks pc ls (.int x :: .int i :: .ref a :: rest) M :=
  E.wr (fun n _ _ h => ⟨wfS_tl (wfS_tl (wfS_tl h)), by exact trivial⟩) (fun hK hP hD hS k => by
    obtain ⟨h1, h2⟩ := vp_of hi hj hn
    exact va_sast hK.1 hK.2.1 hK.2.2.2.2.2.2.2.2.2.1.1 hP hD hS a 3 (rnM_at hM) rfl h1 hd (by rw [h2]; exact k)) k
theorem e_aast {a n j t ci b : Nat} {r : vw_C} {f : Nat → Option Nat} {i : Int32} {fs : List Value} (hd : decode cc pc = .ok (.aastore, 1)) (hM : M[a]? = some (.inl (t, n, .inr (.inr (.inr (.inr f)))))) (ht : ∀ dA, (glT dA)[t]? = some (dA t, .object r.1)) (hb : M[b]? = some (.inr (ci, fs))) (hc : glC[ci]? = some r) (hi : i = nI j) (hj : j < n) (hn : n < 2147483648) (k : E cc X Qf Qx kc ks (pc + 1) ls rest (M.set a (.inl (t, n, .inr (.inr (.inr (.inr (va_up f j (some b))))))))) : E cc X Qf Qx kc ks pc ls (.ref b :: .int i :: .ref a :: rest) M :=
  E.wr (fun n hw hn h => ⟨wfS_tl (wfS_tl (wfS_tl h)), by
      subst hn
      intro k1 a1 e1
      by_cases hk : k1 = j
      · subst hk
        rw [va_up_self] at e1
        cases e1
        exact (List.getElem?_eq_some_iff.mp hb).1
      · rw [va_up_ne _ _ hk] at e1
        exact hw a _ hM k1 a1 e1⟩) (fun {p l e s m args below meth c D dA cs A ad H locs lsA R Q} hK hP hD hS k => by
    obtain ⟨h1, h2⟩ := vp_of hi hj hn
    have hup : (fun k1 => (va_up f j (some b) k1).map ad) = va_up (fun k1 => (f k1).map ad) j (some (ad b)) := by
      funext k1
      by_cases hk : k1 = j
      · subst hk; rw [va_up_self, va_up_self]; rfl
      · rw [va_up_ne _ _ hk, va_up_ne _ _ hk]
    exact va_astq hK.1 hK.2.1 hK.2.2.2.2.2.2.2.2.2.1.1 hP hD hS a t b ci (rnM_at hM) (ht dA) (rnM_at hb) hc h1 hd (by rw [h2, ← hup]; exact k)) k
/-- new cells: what the machine gives lies at the list's end -/
theorem E.mk {st st' : List Value} {pc' u : Nat} {c' : ACell} (hwf : ∀ n, wfM M → n = M.length → wfS n st → wfS (n + 1) st' ∧ wfA (n + 1) c')
    (hs : ∀ {p : Program} {l : Launch} {e : Env} {s : State} {m : MethodId} {args : Array Value} {below : List Frame} {meth : Method} {c : Code} {D : va_G} {dA : Nat → ClassId} {cs : Nat → Value} {A : Nat → Prop} {ad : Nat → Nat} {H : Heap} {locs : List Loc} {lsA : Array Slot} {Q : State → Prop},
      Kx X cc p l s m args meth c D dA cs A → wfM M → wfS M.length st → va_P D glC (rnM ad cs dA M) H → va_D A (rnM ad cs dA M) → va_S A s.heap H locs →
      (∀ (q : Nat) (H1 : Heap), va_P D glC (rnM ad cs dA M ++ [(q, rnA (va_up ad M.length q) cs dA c')]) H1 → va_D A (rnM ad cs dA M ++ [(q, rnA (va_up ad M.length q) cs dA c')]) → va_S A s.heap H1 locs → W p l e (rmD X.2.2.2.1 X.2.2.2.2.1.1 X.2.2.2.2.1.2) s m args below meth c H1 locs (kc + 1) (ks + u) Q (F0 m pc' lsA (st'.map (rnV (va_up ad M.length q) cs)))) → W p l e (rmD X.2.2.2.1 X.2.2.2.2.1.1 X.2.2.2.2.1.2) s m args below meth c H locs kc ks Q (F0 m pc lsA (st.map (rnV ad cs))))
    (k : E cc X Qf Qx (kc + 1) (ks + u) pc' ls st' (M ++ [c'])) : E cc X Qf Qx kc ks pc ls st M := by
  intro p l e s m args below meth c D dA cs A ad0 n0 hK ad H locs lsA ha hn hR
  obtain ⟨r1, r2, r3, r4, r5, r6, r7⟩ := hR
  obtain ⟨w1, w2⟩ := hwf _ r5 rfl r7
  refine hs hK r5 r7 r1 r2 r3 (fun q H1 h1 h2 h3 => ?_)
  have hag : ∀ i, i < M.length → va_up ad M.length q i = ad i := fun i hi => va_up_ne _ _ (Nat.ne_of_lt hi)
  have hrn : rnM ad cs dA M ++ [(q, rnA (va_up ad M.length q) cs dA c')] = rnM (va_up ad M.length q) cs dA (M ++ [c']) := by
    rw [rnM_push, rnM.agree hag r5, va_up_self]
  rw [hrn] at h1 h2
  have hlen : (M ++ [c']).length = M.length + 1 := by simp
  refine k p l e s m args below meth c D dA cs A ad0 n0 hK (va_up ad M.length q) H1 locs lsA (fun i hi => (hag i (Nat.lt_of_lt_of_le hi hn)).trans (ha i hi)) (by rw [hlen]; omega) ⟨h1, h2, h3, ⟨r4.1, r4.2.1, fun i v hv => ?_⟩, r5.push w2, by rw [hlen]; exact wfL.mono (Nat.le_succ _) r6, by rw [hlen]; exact w1⟩
  rw [rnV.agree hag (wfL_at r6 hv)]
  exact r4.2.2 i v hv
end
