/-! ===== Math.abs of a double: its two natives; sizes above a billion ===== -/
set_option maxRecDepth 100000
section
variable {p : Program} {l : Launch} {e : Env} {R : Room} {s : State} {m : MethodId} {args : Array Value} {below : List Frame} {meth : Method} {c : Code} {H : Heap} {locs : List Loc} {cells slots : Nat} {Q : State → Prop}
variable {cc : ByteArray} {pc : Nat} {ls : Array Slot} {rest : List Value}
end
theorem fp_tails : FP.Core.b64.tails = 4503599627370496 := by decide +kernel
theorem fp_exps : FP.Core.b64.exps = 2048 := by decide +kernel
theorem fp_qmin : FP.Core.b64.qmin = -1074 := by decide +kernel
theorem fp_qmax : FP.Core.b64.qmax = 971 := by decide +kernel
/-- the bits but the sign stand for the size -/
theorem fp_enc {s : Bool} {c : Nat} {q : Int} (h1 : 4503599627370496 ≤ c) (h2 : c < 9007199254740992) (h3 : -1074 ≤ q) (h4 : q ≤ 900) : FP.Core.decode FP.Core.b64 (FP.Core.encode FP.Core.b64 (.fin s c q) % 9223372036854775808) = .fin false c q := by
  obtain ⟨e, he⟩ : ∃ e : Nat, (e : Int) = q + 1075 := ⟨(q + 1075).toNat, by omega⟩
  have h5 : FP.Core.encode FP.Core.b64 (.fin s c q) = (s.toNat * 2048 + e) * 4503599627370496 + (c - 4503599627370496) := by
    unfold FP.Core.encode FP.Core.assemble
    rw [fp_tails, fp_exps, fp_qmin]
    show (if c < 4503599627370496 then _ else _) = _
    rw [if_neg (by omega), show (q - -1074).toNat + 1 = e by omega]
  have h6 : FP.Core.encode FP.Core.b64 (.fin s c q) % 9223372036854775808 = e * 4503599627370496 + (c - 4503599627370496) := by
    rw [h5]
    cases s
    · show ((0 * 2048 + e) * 4503599627370496 + (c - 4503599627370496)) % _ = _
      omega
    · show ((1 * 2048 + e) * 4503599627370496 + (c - 4503599627370496)) % _ = _
      omega
  rw [h6]
  unfold FP.Core.decode FP.Core.fieldE FP.Core.fieldT FP.Core.fieldS
  rw [fp_tails, fp_exps, fp_qmin]
  have e1 : (e * 4503599627370496 + (c - 4503599627370496)) / 4503599627370496 = e := by omega
  have e2 : (e * 4503599627370496 + (c - 4503599627370496)) % 4503599627370496 = c - 4503599627370496 := by omega
  rw [e1, e2, Nat.mod_eq_of_lt (show e < 2048 by omega), if_neg (by omega), if_neg (by omega), Nat.div_eq_of_lt (show e < 2048 by omega)]
  rw [show 4503599627370496 + (c - 4503599627370496) = c by omega, show (-1074 : Int) + ((e : Int) - 1) = q by omega]
  rfl
theorem fp_lead {N : Nat} (h : N ≠ 0) : FP.Core.leading N 1 = (N.log2 : Int) := by
  have h1 : 2 ^ N.log2 ≤ N := Nat.log2_self_le h
  unfold FP.Core.leading
  show (if 1 * 2 ^ ((N.log2 : Int) - ((1 : Nat).log2 : Int)).toNat ≤ N * 2 ^ (-((N.log2 : Int) - ((1 : Nat).log2 : Int))).toNat then ((N.log2 : Int) - ((1 : Nat).log2 : Int)) else _) = _
  rw [show (1 : Nat).log2 = 0 by decide, if_pos]
  · omega
  · rw [show ((N.log2 : Int) - ((0 : Nat) : Int)).toNat = N.log2 by omega, show (-((N.log2 : Int) - ((0 : Nat) : Int))).toNat = 0 by omega, Nat.one_mul, Nat.pow_zero, Nat.mul_one]
    exact h1
theorem fp_near1 (x : Nat) : FP.Core.nearest x 1 = x := by
  unfold FP.Core.nearest
  rw [Nat.mod_one, if_pos (by decide), Nat.div_one]
theorem fp_nearge {x d m : Nat} (hd : 0 < d) (h : m * d ≤ x) : m ≤ FP.Core.nearest x d := by
  have h1 : m ≤ x / d := (Nat.le_div_iff_mul_le hd).mpr h
  unfold FP.Core.nearest
  split
  · exact h1
  · split <;> omega
theorem fp_nearle {x d m : Nat} (hd : 0 < d) (h : x < m * d) : FP.Core.nearest x d ≤ m := by
  have h1 : x / d < m := (Nat.div_lt_iff_lt_mul hd).mpr h
  unfold FP.Core.nearest
  split
  · omega
  · split
    · omega
    · have := Nat.mod_lt (x / d) (show 0 < 2 by decide); omega
/-- a whole number's double: its significand and exponent -/
theorem fp_round {s : Bool} {N : Nat} (h : N ≠ 0) (h2 : N ≤ 9223372036854775808) : ∃ c : Nat, ∃ q : Int, FP.Core.round FP.Core.b64 (.fin s N 0) = .fin s c q ∧ 4503599627370496 ≤ c ∧ c < 9007199254740992 ∧ -52 ≤ q ∧ q ≤ 12 ∧ ((N < 9007199254740992 ∧ q ≤ 0 ∧ c = N * 2 ^ (-q).toNat) ∨ (9007199254740992 ≤ N ∧ 1 ≤ q)) := by
  have hlo : 2 ^ N.log2 ≤ N := Nat.log2_self_le h
  have hhi : N < 2 ^ (N.log2 + 1) := Nat.lt_log2_self
  have hK : N.log2 < 64 := (Nat.pow_lt_pow_iff_right (by decide : 1 < 2)).mp (Nat.lt_of_le_of_lt hlo (Nat.lt_of_le_of_lt h2 (by decide)))
  have hr : FP.Core.round FP.Core.b64 (.fin s N 0) = FP.Core.settle FP.Core.b64 s (FP.Core.nearest (N * 2 ^ (0 - ((N.log2 : Int) - 52)).toNat) (1 * 2 ^ (((N.log2 : Int) - 52) - 0).toNat)) ((N.log2 : Int) - 52) := by
    show FP.Core.roundRatio FP.Core.b64 s N 1 0 = _
    unfold FP.Core.roundRatio FP.Core.roundAt FP.Core.quantum FP.Core.unitsNum FP.Core.unitsDen
    rw [if_neg h, fp_lead h, fp_qmin]
    have hp : ((FP.Core.b64.p : Nat) : Int) = 53 := rfl
    rw [hp, show max (-1074 : Int) ((N.log2 : Int) + 0 - (53 - 1)) = (N.log2 : Int) - 52 by omega]
  rw [hr]
  generalize hKK : N.log2 = K at *
  by_cases h52 : K ≤ 52
  · have e1 : (((K : Int) - 52) - 0).toNat = 0 := by omega
    have e2 : (0 - ((K : Int) - 52)).toNat = 52 - K := by omega
    rw [e1, e2, Nat.pow_zero, Nat.one_mul, fp_near1]
    have p1 : 2 ^ K * 2 ^ (52 - K) = 4503599627370496 := by rw [← Nat.pow_add, show K + (52 - K) = 52 by omega]
    have p2 : 2 ^ (K + 1) * 2 ^ (52 - K) = 9007199254740992 := by rw [← Nat.pow_add, show K + 1 + (52 - K) = 53 by omega]
    have c1 : 4503599627370496 ≤ N * 2 ^ (52 - K) := by rw [← p1]; exact Nat.mul_le_mul_right _ hlo
    have c2 : N * 2 ^ (52 - K) < 9007199254740992 := by rw [← p2]; exact Nat.mul_lt_mul_of_pos_right hhi (Nat.two_pow_pos _)
    refine ⟨N * 2 ^ (52 - K), (K : Int) - 52, ?_, c1, c2, by omega, by omega, Or.inl ⟨?_, by omega, by rw [show (-((K : Int) - 52)).toNat = 52 - K by omega]⟩⟩
    · unfold FP.Core.settle FP.Core.bound
      rw [fp_qmax]
      show (if N * 2 ^ (52 - K) < 2 ^ 53 then _ else _) = _
      rw [if_pos (by show _ < 9007199254740992; exact c2), if_pos (by omega)]
    · exact Nat.lt_of_lt_of_le hhi (by rw [show 9007199254740992 = 2 ^ 53 by decide]; exact Nat.pow_le_pow_right (by decide) (by omega))
  · have e1 : (((K : Int) - 52) - 0).toNat = K - 52 := by omega
    have e2 : (0 - ((K : Int) - 52)).toNat = 0 := by omega
    rw [e1, e2, Nat.pow_zero, Nat.mul_one, Nat.one_mul]
    have p1 : 4503599627370496 * 2 ^ (K - 52) = 2 ^ K := by
      rw [show 4503599627370496 = 2 ^ 52 by decide, ← Nat.pow_add, show 52 + (K - 52) = K by omega]
    have p2 : 9007199254740992 * 2 ^ (K - 52) = 2 ^ (K + 1) := by
      rw [show 9007199254740992 = 2 ^ 53 by decide, ← Nat.pow_add, show 53 + (K - 52) = K + 1 by omega]
    have c1 := fp_nearge (x := N) (d := 2 ^ (K - 52)) (m := 4503599627370496) (Nat.two_pow_pos _) (by rw [p1]; exact hlo)
    have c2 := fp_nearle (x := N) (d := 2 ^ (K - 52)) (m := 9007199254740992) (Nat.two_pow_pos _) (by rw [p2]; exact hhi)
    have hN : 9007199254740992 ≤ N := Nat.le_trans (by rw [show 9007199254740992 = 2 ^ 53 by decide]; exact Nat.pow_le_pow_right (by decide) (by omega)) hlo
    generalize FP.Core.nearest N (2 ^ (K - 52)) = c at c1 c2 ⊢
    unfold FP.Core.settle FP.Core.bound
    rw [fp_qmax, fp_tails]
    by_cases hc : c < 9007199254740992
    · refine ⟨c, (K : Int) - 52, ?_, c1, hc, by omega, by omega, Or.inr ⟨hN, by omega⟩⟩
      show (if c < 2 ^ 53 then _ else _) = _
      rw [if_pos (by show _ < 9007199254740992; exact hc), if_pos (by omega)]
    · refine ⟨4503599627370496, (K : Int) - 52 + 1, ?_, by omega, by omega, by omega, by omega, Or.inr ⟨hN, by omega⟩⟩
      show (if c < 2 ^ 53 then _ else _) = _
      rw [if_neg (by show ¬ _ < 9007199254740992; exact hc), if_pos (by omega)]
theorem fp_gt (x y : Int) : (some (compare x y) = some Ordering.gt) ↔ y < x := by
  show (some (if x < y then Ordering.lt else if x = y then Ordering.eq else Ordering.gt) = some Ordering.gt) ↔ _
  by_cases h1 : x < y
  · rw [if_pos h1]; exact ⟨fun h => absurd h (by simp), fun h => by omega⟩
  · rw [if_neg h1]
    by_cases h2 : x = y
    · rw [if_pos h2]; exact ⟨fun h => absurd h (by simp), fun h => by omega⟩
    · rw [if_neg h2]; exact ⟨fun _ => by omega, fun _ => rfl⟩
/-- the size of a whole number as a double -/
def dbA (a : Int64) : UInt64 := FP.l2d a &&& 0x7fffffffffffffff
theorem dbA_bits (a : Int64) : ((FP.l2d a).toInt64 &&& 9223372036854775807).toUInt64 = dbA a := rfl
theorem dbA_nat (a : Int64) : (dbA a).toNat = FP.Core.fromInt FP.Core.b64 a.toInt % 9223372036854775808 := by
  unfold dbA
  rw [UInt64.toNat_and, show (0x7fffffffffffffff : UInt64).toNat = 2 ^ 63 - 1 from rfl, Nat.and_two_pow_sub_one_eq_mod]
  show (UInt64.ofNat (FP.Core.fromInt FP.Core.b64 a.toInt)).toNat % 2 ^ 63 = _
  rw [UInt64.toNat_ofNat']
  show FP.Core.fromInt FP.Core.b64 a.toInt % 18446744073709551616 % 9223372036854775808 = _
  omega
theorem dbA_dec {a : Int64} (h : ¬ a.toInt.natAbs = 0) : ∃ c : Nat, ∃ q : Int, FP.Core.decode FP.Core.b64 (dbA a).toNat = .fin false c q ∧ 4503599627370496 ≤ c ∧ c < 9007199254740992 ∧ -52 ≤ q ∧ q ≤ 12 ∧ ((a.toInt.natAbs < 9007199254740992 ∧ q ≤ 0 ∧ c = a.toInt.natAbs * 2 ^ (-q).toNat) ∨ (9007199254740992 ≤ a.toInt.natAbs ∧ 1 ≤ q)) := by
  have h1 := a.toInt_lt
  have h2 := a.le_toInt
  obtain ⟨c, q, e, r⟩ := fp_round (s := decide (a.toInt < 0)) h (by omega)
  refine ⟨c, q, ?_, r⟩
  rw [dbA_nat]
  show FP.Core.decode FP.Core.b64 (FP.Core.encode FP.Core.b64 (FP.Core.round FP.Core.b64 (.fin (decide (a.toInt < 0)) a.toInt.natAbs 0)) % 9223372036854775808) = _
  rw [e]
  exact fp_enc r.1 r.2.1 (by omega) (by omega)
theorem dbA_0 {a : Int64} (h : a.toInt.natAbs = 0) : dbA a = 0 := by
  have : a = 0 := Int64.toInt_inj.mp (by rw [show (0 : Int64).toInt = 0 from rfl]; omega)
  subst this
  decide +kernel
theorem fp_bil : FP.Core.decode FP.Core.b64 (4741671816366391296 : UInt64).toNat = .fin false 8388608000000000 (-23) := by decide +kernel
theorem dbA_cmp (a : Int64) : (FP.dcmp (dbA a) 4741671816366391296 = some .gt) ↔ ¬ (-1000000000 ≤ a.toInt ∧ a.toInt ≤ 1000000000) := by
  by_cases h : a.toInt.natAbs = 0
  · rw [dbA_0 h]
    exact ⟨fun z => absurd z (by decide +kernel), fun z => by omega⟩
  · obtain ⟨c, q, e, c1, c2, q1, q2, r⟩ := dbA_dec h
    show (FP.Core.order (FP.Core.decode FP.Core.b64 (dbA a).toNat) (FP.Core.decode FP.Core.b64 (4741671816366391296 : UInt64).toNat) = some .gt) ↔ _
    rw [e, fp_bil]
    show (some (compare ((c * 2 ^ (q - min q (-23)).toNat : Nat) : Int) ((8388608000000000 * 2 ^ ((-23 : Int) - min q (-23)).toNat : Nat) : Int)) = some Ordering.gt) ↔ _
    rw [fp_gt, Int.ofNat_lt]
    rcases r with ⟨hN, hq, rfl⟩ | ⟨hN, hq⟩
    · by_cases hk : -23 ≤ q
      · rw [show min q (-23) = -23 by omega, Nat.mul_assoc, ← Nat.pow_add, show (-q).toNat + (q - -23).toNat = 23 by omega, show ((-23 : Int) - -23).toNat = 0 by omega]
        show 8388608000000000 * 1 < a.toInt.natAbs * 8388608 ↔ _
        omega
      · rw [show min q (-23) = q by omega, show (q - q).toNat = 0 by omega, Nat.pow_zero, Nat.mul_one, show (-q).toNat = 23 + ((-23 : Int) - q).toNat by omega, Nat.pow_add, ← Nat.mul_assoc, Nat.mul_lt_mul_right (Nat.two_pow_pos _)]
        show 8388608000000000 < a.toInt.natAbs * 8388608 ↔ _
        omega
    · rw [show min q (-23) = -23 by omega, show ((-23 : Int) - -23).toNat = 0 by omega, Nat.pow_zero, Nat.mul_one]
      have h1 : c * 2 ^ 1 ≤ c * 2 ^ (q - -23).toNat := Nat.mul_le_mul_left _ (Nat.pow_le_pow_right (by decide) (by omega))
      constructor
      · intro _; omega
      · intro _; omega
theorem dbA_ok (a : Int64) : (dbA a &&& 0x7fffffffffffffff > 0x7ff0000000000000 && dbA a &&& 0x0008000000000000 == 0) = false := by
  have h3 : (dbA a &&& 0x7fffffffffffffff).toNat = (dbA a).toNat % 9223372036854775808 := by
    rw [UInt64.toNat_and, show (0x7fffffffffffffff : UInt64).toNat = 2 ^ 63 - 1 from rfl, Nat.and_two_pow_sub_one_eq_mod]
  have h4 : ¬ (dbA a &&& 0x7fffffffffffffff > 0x7ff0000000000000) := by
    intro z
    have z2 : (0x7ff0000000000000 : UInt64).toNat < (dbA a &&& 0x7fffffffffffffff).toNat := UInt64.lt_iff_toNat_lt.mp z
    have z3 : (0x7ff0000000000000 : UInt64).toNat = 9218868437227405312 := rfl
    by_cases h : a.toInt.natAbs = 0
    · rw [h3, z3, dbA_0 h] at z2
      have : (0 : UInt64).toNat = 0 := rfl
      omega
    · obtain ⟨c, q, e, -⟩ := dbA_dec h
      have h5 : (dbA a).toNat / 4503599627370496 % 2048 ≠ 2047 := by
        intro h6
        unfold FP.Core.decode FP.Core.fieldE at e
        rw [fp_tails, fp_exps] at e
        rw [if_pos h6] at e
        split at e <;> cases e
      rw [h3, z3] at z2
      generalize (dbA a).toNat = Y at *
      omega
  simp [h4]
/-- what the comparison leaves -/
theorem dbA_le (a : Int64) : (Op.cmpValue (FP.dcmp (dbA a) 4741671816366391296) .l ≤ 0) ↔ (-1000000000 ≤ a ∧ a ≤ 1000000000) := by
  have h := dbA_cmp a
  have h2 : (-1000000000 ≤ a ∧ a ≤ 1000000000) ↔ (-1000000000 ≤ a.toInt ∧ a.toInt ≤ 1000000000) := by
    rw [Int64.le_iff_toInt_le, Int64.le_iff_toInt_le]; exact Iff.rfl
  rw [h2]
  cases hc : FP.dcmp (dbA a) 4741671816366391296 with
  | none =>
    rw [hc] at h
    have : -1000000000 ≤ a.toInt ∧ a.toInt ≤ 1000000000 := Classical.byContradiction fun z => absurd (h.mpr z) (by decide)
    exact ⟨fun _ => this, fun _ => by decide⟩
  | some z =>
    rw [hc] at h
    cases z with
    | gt => exact ⟨fun z => absurd z (by decide), fun z => absurd z (h.mp rfl)⟩
    | lt =>
      have : -1000000000 ≤ a.toInt ∧ a.toInt ≤ 1000000000 := Classical.byContradiction fun z => absurd (h.mpr z) (by decide)
      exact ⟨fun _ => this, fun _ => by decide⟩
    | eq =>
      have : -1000000000 ≤ a.toInt ∧ a.toInt ≤ 1000000000 := Classical.byContradiction fun z => absurd (h.mpr z) (by decide)
      exact ⟨fun _ => this, fun _ => by decide⟩
/-- the machine's own entry for Math.abs of a double, which stands in for its bytecode -/
def rowAbs : NativeRow := (NativeRow.find? Native.java_lang_Math.nans.rows "java/lang/Math" "abs" "(D)D").get (by decide +kernel)
theorem rowAbs_at (p : Program) : NativeRow.find? p.tables.natives "java/lang/Math" "abs" "(D)D" = some rowAbs := by cases p <;> rfl
theorem dbA_le7 (a : Int64) : dbA a &&& 0x7fffffffffffffff ≤ 0x7ff0000000000000 := by
  have h := dbA_ok a
  have e : dbA a &&& 0x7fffffffffffffff = dbA a := by unfold dbA; rw [UInt64.and_assoc, UInt64.and_self]
  have h3 : (dbA a).toNat = FP.Core.fromInt FP.Core.b64 a.toInt % 9223372036854775808 := dbA_nat a
  rw [e, UInt64.le_iff_toNat_le, show (0x7ff0000000000000 : UInt64).toNat = 9218868437227405312 from rfl]
  by_cases h0 : a.toInt.natAbs = 0
  · rw [dbA_0 h0]; decide
  · obtain ⟨c, q, ed, -⟩ := dbA_dec h0
    have h5 : (dbA a).toNat / 4503599627370496 % 2048 ≠ 2047 := by
      intro h6
      unfold FP.Core.decode FP.Core.fieldE at ed
      rw [fp_tails, fp_exps] at ed
      rw [if_pos h6] at ed
      split at ed <;> cases ed
    generalize (dbA a).toNat = Y at *
    omega
theorem rowAbs_run (a : Int64) (e : Env) (S : State) : ∃ acts, (rowAbs.sem #[.double (FP.l2d a)]).run e S = .ok (some (.double (dbA a))) S acts := by
  have h1 : rowAbs.sem #[.double (FP.l2d a)] = (do
      let r ← anyNaN64 (dbA a)
      mark "nat.java_lang_Math.abs"
      Pure.pure (some (.double r))) := rfl
  have hn := dbA_le7 a
  have h2 : wpRun (rowAbs.sem #[.double (FP.l2d a)]) (fun v t _ => v = some (.double (dbA a)) ∧ t = S) (fun _ _ _ => False) e S := by
    rw [h1]
    simp [jvm, wpRun, anyNaN64, hn]
  have h3 := (wpRun_iff_run _ _ _ _ _).mp h2
  cases hr : (rowAbs.sem #[.double (FP.l2d a)]).run e S with
  | ok v t acts =>
    rw [hr] at h3
    obtain ⟨rfl, rfl⟩ := h3
    exact ⟨_, rfl⟩
  | ctl x t acts => rw [hr] at h3; cases x <;> exact h3.elim
theorem ovr_at {tb : Tables} {e : Env} {s : State} {f : JFrame} {k : Class} {x : Method} {row : NativeRow} (h0 : f.pc = 0) (hk : s.vm.classes[f.method.cls]? = some k) (hin : overriddenIn.contains k.name = true) (hb : k.loader = none) (hx : k.methods[f.method.idx]? = some x) (hr : NativeRow.find? tb.natives k.name x.name x.desc = some row) : overridden tb e s f = some row := by
  unfold overridden
  simp [h0, hk, hb, hx, hr]
  intro h
  exact absurd (List.contains_iff_mem.mp hin) h
section
variable {p : Program} {l : Launch} {e : Env} {R : Room} {s : State} {m : MethodId} {args : Array Value} {below : List Frame} {meth : Method} {c : Code} {H : Heap} {locs : List Loc} {cells slots : Nat} {Q : State → Prop}
variable {cc : ByteArray} {pc : Nat} {ls : Array Slot} {rest : List Value}
theorem va_absD {own : String} {idx : Nat} (a : Int64) (hexec : p.tables.exec = Jvm.exec) (hb : c.code = cc) (hown : s.vm.findClass own = some m.cls) (hts : ∀ w ∈ lw_all, w.before args s = true) (hl : Cond.methodLink own idx yJ8_abs ∈ lw_all) (hls : ls.size = c.maxLocals) (hfr : 1 ≤ R.frames) (hlo : (rest.map fun v => v.category).sum + 40 ≤ R.locals)
    (hdg : decode cc pc = .ok (.invokestatic idx, 3)) (kk : W p l e R s m args below meth c H locs cells slots Q (F0 m (pc + 3) ls (.double (dbA a) :: rest))) :
    W p l e R s m args below meth c H locs cells slots Q (F0 m pc ls (.double (FP.l2d a) :: rest)) := by
  intro T hT X
  have hcode := hts _ q671
  obtain ⟨mk, hnamed⟩ := Cond.code_named hcode
  obtain ⟨methM, cM, hmethM, hcM, -, hmlM, -, hlkM, -, hsigM⟩ := Cond.code_spec hnamed hcode
  have hstM : methM.isStatic = true := Cond.static_spec hnamed hmethM (hts _ q670)
  obtain ⟨kP, hkP, hkn⟩ := className_of_methodNamed hnamed
  have hinP : kP.init = .initialized := Cond.initialized_spec (findClass_of_methodNamed hnamed) hkP (hts _ q111)
  have hsg : methM.sig = { parameters := [.double], returnType := some .double } := by
    have h9 : parseMethodDescriptor "(D)D" = some { parameters := [.double], returnType := some .double } := by decide +kernel
    exact Option.some.inj (hsigM.symm.trans h9)
  obtain ⟨vm', X', step⟩ := X.invokestatic hexec hown (hts _ hl) hnamed hmethM hstM hkP hinP (by decide) (g := F0 m pc ls (.double (FP.l2d a) :: rest)) rfl (argsL := [.double (FP.l2d a)]) (rest := rest) (by rw [hsg]; rfl) rfl (by rw [hb]; exact hdg)
  obtain ⟨t, x1, y1⟩ := kk (T.setVm vm') hT X'
  refine ⟨t, step t (fun acts => ?_), y1⟩
  clear step
  generalize T.setVm vm' = U at X' x1 ⊢
  obtain ⟨g0, hfr0⟩ := X'.frames_eq
  have hcur : U.cur < U.threads.size := State.cur_lt_of_frames hfr0
  have hnamed' := X'.named hnamed
  have hcode' : (Cond.code yJ8_abs cJ8_abs 2 (some .double)).before args U = true := Cond.tabsOnly_warm (args' := args) (T := U) X'.warmed _ rfl hcode
  obtain ⟨meth2, c2, hmeth2, hc2, -, hml2, -, hlk2, -, hsig2⟩ := Cond.code_spec hnamed' hcode'
  obtain ⟨k2, hk2, hkn2⟩ := className_of_methodNamed hnamed'
  obtain ⟨hmn2, hmd2⟩ := name_of_methodNamed hnamed' hmeth2
  have hx2 : k2.methods[mk.idx]? = some meth2 := by simpa [Vm.method?, hk2] using hmeth2
  have hboot2 : k2.loader = none := Vm.bootOf_findClass (findClass_of_methodNamed hnamed') hk2
  have hsg2 : meth2.sig = { parameters := [.double], returnType := some .double } := by
    have h9 : parseMethodDescriptor "(D)D" = some { parameters := [.double], returnType := some .double } := by decide +kernel
    exact Option.some.inj (hsig2.symm.trans h9)
  rw [(doInvoke_java (s := U.setTop (F0 m pc ls rest)) (e := e) (acts := acts) (args := #[.double (FP.l2d a)]) (meth := meth2) (code := c2) hmeth2 hc2 hlk2 (by rw [hml2]; exact X'.notFull (g := F0 m pc ls rest) hls (vars := 2) hfr (by show 2 * 0 + (rest.map fun v => v.category).sum + (2 + 11) ≤ R.locals; omega))).1, hml2]
  have htop : U.setTop (F0 m pc ls rest) = U.setFrames (.java (F0 m pc ls rest) :: below) := by rw [State.setTop_of_frames _ hfr0]
  have hU : (U.setTop (F0 m pc ls rest)).pushFrame (.java { method := mk, pc := 0, locals := argsToLocals #[.double (FP.l2d a)] 2, stack := [], locked := none }) = U.setFrames (.java (entryFrame mk #[.double (FP.l2d a)] 2) :: .java (F0 m pc ls rest) :: below) := by
    rw [State.pushFrame, State.frames_setTop _ hfr0, htop, State.setFrames_setFrames]
    rfl
  rw [hU]
  have hf1 : (U.setFrames (.java (entryFrame mk #[.double (FP.l2d a)] 2) :: .java (F0 m pc ls rest) :: below)).frames = .java (entryFrame mk #[.double (FP.l2d a)] 2) :: .java (F0 m pc ls rest) :: below := State.frames_setFrames _ hcur
  have hkin : overriddenIn.contains k2.name = true := by rw [hkn2]; decide
  have hrow2 : NativeRow.find? p.tables.natives k2.name meth2.name meth2.desc = some rowAbs := by rw [hkn2, hmn2, hmd2]; exact rowAbs_at p
  have hov : overridden p.tables e (U.setFrames (.java (entryFrame mk #[.double (FP.l2d a)] 2) :: .java (F0 m pc ls rest) :: below)) (entryFrame mk #[.double (FP.l2d a)] 2) = some rowAbs := by
    have hk3 : (U.setFrames (.java (entryFrame mk #[.double (FP.l2d a)] 2) :: .java (F0 m pc ls rest) :: below)).vm.classes[mk.cls]? = some k2 := hk2
    exact ovr_at rfl hk3 hkin hboot2 hx2 hrow2
  have hb2 : ∀ F : List Frame, ((U.setFrames F).vm.classes[mk.cls]?.bind fun y => y.methods[mk.idx]?) = some meth2 := by
    intro F
    show (U.vm.classes[mk.cls]?.bind fun y => y.methods[mk.idx]?) = some meth2
    rw [hk2]; exact hx2
  have hb3 : (U.vm.classes[mk.cls]?.bind fun y => y.methods[mk.idx]?) = some meth2 := by rw [hk2]; exact hx2
  obtain ⟨acts2, hr2⟩ := rowAbs_run a e (U.setFrames (.native { method := mk, args := #[.double (FP.l2d a)] } :: .java (F0 m pc ls rest) :: below))
  have hcodeG : ∀ F : List Frame, (U.setFrames F).code? m = some c := fun F => by
    have := X'.here.code
    rw [State.code?_eq] at this ⊢
    simpa [State.setFrames] using this
  have hfs : handOver (U.setFrames (.native { method := mk, args := #[.double (FP.l2d a)] } :: .java (F0 m pc ls rest) :: below)) (some (.double (dbA a))) (.java (F0 m pc ls rest) :: below) = some (.java (F0 m (pc + 3) ls (.double (dbA a) :: rest)) :: below) := by
    have hd : decode c.code pc = .ok (.invokestatic idx, 3) := by rw [hb]; exact hdg
    simp [handOver, hcodeG, hd, Except.toOption, F0]
  have hpar : meth2.sig.parameters.length = 1 := by rw [hsg2]; rfl
  have htake : ∀ n : Nat, List.take (1 + n) [Value.double (FP.l2d a)] = [Value.double (FP.l2d a)] := fun n => List.take_of_length_le (Nat.le_add_right 1 n)
  have hst2 : (stepThread p.tables e (U.setFrames (.java (entryFrame mk #[.double (FP.l2d a)] 2) :: .java (F0 m pc ls rest) :: below))).1 = U.setTop (F0 m (pc + 3) ls (.double (dbA a) :: rest)) := by
    unfold stepThread
    simp only [hf1, hov]
    simp [entryFrame, argsToLocals, Value.category, argCount, hb2, hb3, hpar, htake, hr2, afterNative]
    rw [doReturn_native (f := { method := mk, args := #[.double (FP.l2d a)] }) (below := .java (F0 m pc ls rest) :: below) (State.frames_setFrames _ hcur) rfl hfs, State.setFrames_setFrames, ← State.setTop_of_frames _ hfr0]
  refine Steps.head ⟨X'.here.running, by simpa using X'.here.runnable, by simpa using X'.here.alone⟩ ⟨[.java (entryFrame mk #[.double (FP.l2d a)] 2), .java (F0 m pc ls rest)], by rw [hf1]; rfl, by simp, by simp⟩ ?_
  rw [hst2]
  exact x1
end
section
variable {cc : ByteArray} {X : Cx} {Qf : Qfun} {Qx : Qxun} {kc ks pc : Nat} {ls : List (Option Value)} {rest : List Value} {M : List ACell}
/-- Math.abs of a whole number as a double -/
theorem e_absD {own : String} {idx : Nat} (a : Int64) (hd : decode cc pc = .ok (.invokestatic idx, 3)) (ho : X.1 = own) (hl : Cond.methodLink own idx yJ8_abs ∈ lw_all) (hcat : (rest.map fun v => v.category).sum ≤ 100) (kk : E cc X Qf Qx kc ks (pc + 3) ls (.double (dbA a) :: rest) M) : E cc X Qf Qx kc ks pc ls (.double (FP.l2d a) :: rest) M := by
  intro p l e s m args below meth c D dA cs A ad0 n0 hK ad H locs lsA ha hn hR
  have hG := hK.2.2.2.2.2.2.2.2.2.1
  obtain ⟨r1, r2, r3, r4, r5, r6, r7⟩ := id hR
  exact va_absD a hK.1 hK.2.1 (ho ▸ hK.2.2.2.2.1) hK.2.2.2.2.2.1 hl (r4.1.trans hK.2.2.2.1.symm) (by simp only [rmD]; omega) (by rw [rnV_cats (GC.cat hG.2.2.1)]; simp only [rmD]; omega) hd (kk p l e s m args below meth c D dA cs A ad0 n0 hK ad H locs lsA ha hn ⟨r1, r2, r3, r4, r5, r6, wfS_cons (by exact trivial) (wfS_tl r7)⟩)
end
