/-! ===== the component in the memory, by program: fields and arrays by numbers ===== -/
set_option maxRecDepth 100000
/-- the component's state: ints, longs, arrays of ints (bytes), of longs, of references, references, trays (their rows, their sorts) -/
abbrev Xs : Type := (Nat → Int32) × (Nat → Int64) × (Nat → Nat → Int32) × (Nat → Nat → Int64) × (Nat → Nat → Option Nat) × (Nat → Option Nat) × (Nat → Option Nat × Int32)
def xI (ξ : Xs) (k : Nat) (v : Int32) : Xs := (upd ξ.1 k v, ξ.2)
def xL (ξ : Xs) (k : Nat) (v : Int64) : Xs := (ξ.1, vp_updL ξ.2.1 k v, ξ.2.2)
def xA (ξ : Xs) (k : Nat) (f : Nat → Int32) : Xs := (ξ.1, ξ.2.1, va_up ξ.2.2.1 k f, ξ.2.2.2)
def xB (ξ : Xs) (k : Nat) (f : Nat → Int64) : Xs := (ξ.1, ξ.2.1, ξ.2.2.1, va_up ξ.2.2.2.1 k f, ξ.2.2.2.2)
def xR (ξ : Xs) (k : Nat) (f : Nat → Option Nat) : Xs := (ξ.1, ξ.2.1, ξ.2.2.1, ξ.2.2.2.1, va_up ξ.2.2.2.2.1 k f, ξ.2.2.2.2.2)
def xP (ξ : Xs) (k : Nat) (v : Option Nat) : Xs := (ξ.1, ξ.2.1, ξ.2.2.1, ξ.2.2.2.1, ξ.2.2.2.2.1, va_up ξ.2.2.2.2.2.1 k v, ξ.2.2.2.2.2.2)
def xT (ξ : Xs) (k : Nat) (v : Option Nat × Int32) : Xs := (ξ.1, ξ.2.1, ξ.2.2.1, ξ.2.2.2.1, ξ.2.2.2.2.1, ξ.2.2.2.2.2.1, va_up ξ.2.2.2.2.2.2 k v)
def trF : Nat → Option Nat := va_up (va_up (va_up (va_up (fun _ => none) 0 (some 52)) 1 (some 53)) 2 (some 54)) 3 (some 55)
def coF : Nat → Option Nat := fun i => if i < 14 then some (18 + i) else none
def riF : Nat → Option Nat := fun i => if i < 2 then some (34 + i) else none
def xF (ξ : Xs) : List Value := [.ref 1, .ref 2, .ref 3, .ref 4, rfO (ξ.2.2.2.2.2.1 4), rfO (ξ.2.2.2.2.2.1 5), .int (ξ.1 6), .int (ξ.1 7), .int (ξ.1 8), .int (ξ.1 9), .int (ξ.1 10), .ref 8, .ref 9, .int (ξ.1 13), .long (ξ.2.1 14), .ref 10, .ref 11, .ref 12, .ref 13, .ref 14, .int (ξ.1 20), .int (ξ.1 21), .int (ξ.1 22), .int (ξ.1 23), .int (ξ.1 24), .int (ξ.1 25), .int (ξ.1 26), .ref 15, .ref 16, .ref 17, .ref 32, .ref 33, .ref 36, .ref 37, .ref 38, .int (ξ.1 35), .int (ξ.1 36), .int (ξ.1 37), .ref 39, .ref 40, .ref 41, .ref 42, .ref 43, .ref 44, .ref 45, .int (ξ.1 45), .int (ξ.1 46), .int (ξ.1 47), .int (ξ.1 48), .ref 46, .ref 47, .ref 48, .ref 49, .ref 50, .ref 51, .int (ξ.1 55), .int (ξ.1 56)]
def xG (ξ : Xs) : List Value := [.null, .null, .null, .null, .null, .int 0, .int (ξ.1 206), .int (ξ.1 207)]
def xH (ξ : Xs) : List Value := [.ref 5, .int (ξ.1 101), .int (ξ.1 102), .int (ξ.1 103), .int (ξ.1 104), .int (ξ.1 105), .long (ξ.2.1 106), .ref 3]
def xW (ξ : Xs) : List ACell := [.inr (0, xF ξ), .inl (6, 4, .inr (.inr (.inr (.inr (trF))))), .inl (7, 4, .inr (.inr (.inr (.inr (ξ.2.2.2.2.1 1))))), .inr (1, xG ξ), .inr (2, xH ξ), .inl (2, 500, .inl (ξ.2.2.1 100)), .inl (9, 40, .inr (.inr (.inr (.inr (ξ.2.2.2.2.1 6))))), .inl (9, 40, .inr (.inr (.inr (.inr (ξ.2.2.2.2.1 7))))), .inl (1, 16, .inr (.inl (ξ.2.2.2.1 11))), .inl (0, 4, .inl (ξ.2.2.1 12)), .inl (1, 5, .inr (.inl (ξ.2.2.2.1 15))), .inl (1, 5, .inr (.inl (ξ.2.2.2.1 16))), .inl (1, 5, .inr (.inl (ξ.2.2.2.1 17))), .inl (1, 20, .inr (.inl (ξ.2.2.2.1 18))), .inl (1, 40, .inr (.inl (ξ.2.2.2.1 19))), .inl (0, 14, .inl (ξ.2.2.1 27)), .inl (0, 14, .inl (ξ.2.2.1 28)), .inl (5, 14, .inr (.inr (.inr (.inr (coF))))), .inl (0, 2, .inl (ξ.2.2.1 400)), .inl (0, 2, .inl (ξ.2.2.1 401)), .inl (0, 2, .inl (ξ.2.2.1 402)), .inl (0, 2, .inl (ξ.2.2.1 403)), .inl (0, 2, .inl (ξ.2.2.1 404)), .inl (0, 2, .inl (ξ.2.2.1 405)), .inl (0, 2, .inl (ξ.2.2.1 406)), .inl (0, 2, .inl (ξ.2.2.1 407)), .inl (0, 2, .inl (ξ.2.2.1 408)), .inl (0, 2, .inl (ξ.2.2.1 409)), .inl (0, 2, .inl (ξ.2.2.1 410)), .inl (0, 2, .inl (ξ.2.2.1 411)), .inl (0, 2, .inl (ξ.2.2.1 412)), .inl (0, 2, .inl (ξ.2.2.1 413)), .inl (1, 20, .inr (.inl (ξ.2.2.2.1 30))), .inl (5, 2, .inr (.inr (.inr (.inr (riF))))), .inl (0, 80, .inl (ξ.2.2.1 420)), .inl (0, 80, .inl (ξ.2.2.1 421)), .inl (0, 2, .inl (ξ.2.2.1 32)), .inl (0, 2, .inl (ξ.2.2.1 33)), .inl (0, 2, .inl (ξ.2.2.1 34)), .inl (0, 100, .inl (ξ.2.2.1 38)), .inl (0, 100, .inl (ξ.2.2.1 39)), .inl (0, 20, .inl (ξ.2.2.1 40)), .inl (0, 20, .inl (ξ.2.2.1 41)), .inl (0, 60, .inl (ξ.2.2.1 42)), .inl (0, 60, .inl (ξ.2.2.1 43)), .inl (0, 60, .inl (ξ.2.2.1 44)), .inl (0, 7, .inl (ξ.2.2.1 49)), .inl (0, 7, .inl (ξ.2.2.1 50)), .inl (0, 7, .inl (ξ.2.2.1 51)), .inl (0, 7, .inl (ξ.2.2.1 52)), .inl (0, 7, .inl (ξ.2.2.1 53)), .inl (0, 4, .inl (ξ.2.2.1 54)), .inr (3, [rfO (ξ.2.2.2.2.2.2 0).1, .int (ξ.2.2.2.2.2.2 0).2]), .inr (3, [rfO (ξ.2.2.2.2.2.2 1).1, .int (ξ.2.2.2.2.2.2 1).2]), .inr (3, [rfO (ξ.2.2.2.2.2.2 2).1, .int (ξ.2.2.2.2.2.2 2).2]), .inr (3, [rfO (ξ.2.2.2.2.2.2 3).1, .int (ξ.2.2.2.2.2.2 3).2])]
/-- the memory: the component, 61 cells between, others -/
def XM (ξ : Xs) (mid dyn : List ACell) : List ACell := xW ξ ++ (mid ++ dyn)
section
variable {ξ : Xs} {mid dyn : List ACell}
theorem xm_o0 : (XM ξ mid dyn)[0]? = some (.inr (0, xF ξ)) := rfl
theorem xm_o3 : (XM ξ mid dyn)[3]? = some (.inr (1, xG ξ)) := rfl
theorem xm_o4 : (XM ξ mid dyn)[4]? = some (.inr (2, xH ξ)) := rfl
theorem xm_oT {j : Nat} (h : j < 4) : (XM ξ mid dyn)[52 + j]? = some (.inr (3, [rfO (ξ.2.2.2.2.2.2 j).1, .int (ξ.2.2.2.2.2.2 j).2])) := by
  rcases (show j = 0 ∨ j = 1 ∨ j = 2 ∨ j = 3 by omega) with rfl | rfl | rfl | rfl <;> rfl
theorem xm_fT {j : Nat} (h : j < 4) (r : Option Nat) (v : Int32) : (XM ξ mid dyn).set (52 + j) (.inr (3, [rfO r, .int v])) = XM (xT ξ j (r, v)) mid dyn := by
  rcases (show j = 0 ∨ j = 1 ∨ j = 2 ∨ j = 3 by omega) with rfl | rfl | rfl | rfl <;> rfl
theorem xm_c {j : Nat} (h : j < 14) : (XM ξ mid dyn)[18 + j]? = some (.inl (0, 2, .inl (ξ.2.2.1 (400 + j)))) := by
  rcases (show j = 0 ∨ j = 1 ∨ j = 2 ∨ j = 3 ∨ j = 4 ∨ j = 5 ∨ j = 6 ∨ j = 7 ∨ j = 8 ∨ j = 9 ∨ j = 10 ∨ j = 11 ∨ j = 12 ∨ j = 13 by omega) with rfl | rfl | rfl | rfl | rfl | rfl | rfl | rfl | rfl | rfl | rfl | rfl | rfl | rfl <;> rfl
theorem xm_cs {j : Nat} (h : j < 14) (f : Nat → Int32) : (XM ξ mid dyn).set (18 + j) (.inl (0, 2, .inl f)) = XM (xA ξ (400 + j) f) mid dyn := by
  rcases (show j = 0 ∨ j = 1 ∨ j = 2 ∨ j = 3 ∨ j = 4 ∨ j = 5 ∨ j = 6 ∨ j = 7 ∨ j = 8 ∨ j = 9 ∨ j = 10 ∨ j = 11 ∨ j = 12 ∨ j = 13 by omega) with rfl | rfl | rfl | rfl | rfl | rfl | rfl | rfl | rfl | rfl | rfl | rfl | rfl | rfl <;> rfl
theorem xm_i {j : Nat} (h : j < 2) : (XM ξ mid dyn)[34 + j]? = some (.inl (0, 80, .inl (ξ.2.2.1 (420 + j)))) := by
  rcases (show j = 0 ∨ j = 1 by omega) with rfl | rfl <;> rfl
theorem xm_is {j : Nat} (h : j < 2) (f : Nat → Int32) : (XM ξ mid dyn).set (34 + j) (.inl (0, 80, .inl f)) = XM (xA ξ (420 + j) f) mid dyn := by
  rcases (show j = 0 ∨ j = 1 by omega) with rfl | rfl <;> rfl
theorem xm_a11 : (XM ξ mid dyn)[8]? = some (.inl (1, 16, .inr (.inl (ξ.2.2.2.1 11)))) := rfl
theorem xm_s11 (f : Nat → Int64) : (XM ξ mid dyn).set 8 (.inl (1, 16, .inr (.inl f))) = XM (xB ξ 11 f) mid dyn := rfl
theorem xm_a12 : (XM ξ mid dyn)[9]? = some (.inl (0, 4, .inl (ξ.2.2.1 12))) := rfl
theorem xm_s12 (f : Nat → Int32) : (XM ξ mid dyn).set 9 (.inl (0, 4, .inl f)) = XM (xA ξ 12 f) mid dyn := rfl
theorem xm_a15 : (XM ξ mid dyn)[10]? = some (.inl (1, 5, .inr (.inl (ξ.2.2.2.1 15)))) := rfl
theorem xm_s15 (f : Nat → Int64) : (XM ξ mid dyn).set 10 (.inl (1, 5, .inr (.inl f))) = XM (xB ξ 15 f) mid dyn := rfl
theorem xm_a16 : (XM ξ mid dyn)[11]? = some (.inl (1, 5, .inr (.inl (ξ.2.2.2.1 16)))) := rfl
theorem xm_s16 (f : Nat → Int64) : (XM ξ mid dyn).set 11 (.inl (1, 5, .inr (.inl f))) = XM (xB ξ 16 f) mid dyn := rfl
theorem xm_a17 : (XM ξ mid dyn)[12]? = some (.inl (1, 5, .inr (.inl (ξ.2.2.2.1 17)))) := rfl
theorem xm_s17 (f : Nat → Int64) : (XM ξ mid dyn).set 12 (.inl (1, 5, .inr (.inl f))) = XM (xB ξ 17 f) mid dyn := rfl
theorem xm_a18 : (XM ξ mid dyn)[13]? = some (.inl (1, 20, .inr (.inl (ξ.2.2.2.1 18)))) := rfl
theorem xm_s18 (f : Nat → Int64) : (XM ξ mid dyn).set 13 (.inl (1, 20, .inr (.inl f))) = XM (xB ξ 18 f) mid dyn := rfl
theorem xm_a19 : (XM ξ mid dyn)[14]? = some (.inl (1, 40, .inr (.inl (ξ.2.2.2.1 19)))) := rfl
theorem xm_s19 (f : Nat → Int64) : (XM ξ mid dyn).set 14 (.inl (1, 40, .inr (.inl f))) = XM (xB ξ 19 f) mid dyn := rfl
theorem xm_a27 : (XM ξ mid dyn)[15]? = some (.inl (0, 14, .inl (ξ.2.2.1 27))) := rfl
theorem xm_s27 (f : Nat → Int32) : (XM ξ mid dyn).set 15 (.inl (0, 14, .inl f)) = XM (xA ξ 27 f) mid dyn := rfl
theorem xm_a28 : (XM ξ mid dyn)[16]? = some (.inl (0, 14, .inl (ξ.2.2.1 28))) := rfl
theorem xm_s28 (f : Nat → Int32) : (XM ξ mid dyn).set 16 (.inl (0, 14, .inl f)) = XM (xA ξ 28 f) mid dyn := rfl
theorem xm_a400 : (XM ξ mid dyn)[18]? = some (.inl (0, 2, .inl (ξ.2.2.1 400))) := rfl
theorem xm_s400 (f : Nat → Int32) : (XM ξ mid dyn).set 18 (.inl (0, 2, .inl f)) = XM (xA ξ 400 f) mid dyn := rfl
theorem xm_a401 : (XM ξ mid dyn)[19]? = some (.inl (0, 2, .inl (ξ.2.2.1 401))) := rfl
theorem xm_s401 (f : Nat → Int32) : (XM ξ mid dyn).set 19 (.inl (0, 2, .inl f)) = XM (xA ξ 401 f) mid dyn := rfl
theorem xm_a402 : (XM ξ mid dyn)[20]? = some (.inl (0, 2, .inl (ξ.2.2.1 402))) := rfl
theorem xm_s402 (f : Nat → Int32) : (XM ξ mid dyn).set 20 (.inl (0, 2, .inl f)) = XM (xA ξ 402 f) mid dyn := rfl
theorem xm_a403 : (XM ξ mid dyn)[21]? = some (.inl (0, 2, .inl (ξ.2.2.1 403))) := rfl
theorem xm_s403 (f : Nat → Int32) : (XM ξ mid dyn).set 21 (.inl (0, 2, .inl f)) = XM (xA ξ 403 f) mid dyn := rfl
theorem xm_a404 : (XM ξ mid dyn)[22]? = some (.inl (0, 2, .inl (ξ.2.2.1 404))) := rfl
theorem xm_s404 (f : Nat → Int32) : (XM ξ mid dyn).set 22 (.inl (0, 2, .inl f)) = XM (xA ξ 404 f) mid dyn := rfl
theorem xm_a405 : (XM ξ mid dyn)[23]? = some (.inl (0, 2, .inl (ξ.2.2.1 405))) := rfl
theorem xm_s405 (f : Nat → Int32) : (XM ξ mid dyn).set 23 (.inl (0, 2, .inl f)) = XM (xA ξ 405 f) mid dyn := rfl
theorem xm_a406 : (XM ξ mid dyn)[24]? = some (.inl (0, 2, .inl (ξ.2.2.1 406))) := rfl
theorem xm_s406 (f : Nat → Int32) : (XM ξ mid dyn).set 24 (.inl (0, 2, .inl f)) = XM (xA ξ 406 f) mid dyn := rfl
theorem xm_a407 : (XM ξ mid dyn)[25]? = some (.inl (0, 2, .inl (ξ.2.2.1 407))) := rfl
theorem xm_s407 (f : Nat → Int32) : (XM ξ mid dyn).set 25 (.inl (0, 2, .inl f)) = XM (xA ξ 407 f) mid dyn := rfl
theorem xm_a408 : (XM ξ mid dyn)[26]? = some (.inl (0, 2, .inl (ξ.2.2.1 408))) := rfl
theorem xm_s408 (f : Nat → Int32) : (XM ξ mid dyn).set 26 (.inl (0, 2, .inl f)) = XM (xA ξ 408 f) mid dyn := rfl
theorem xm_a409 : (XM ξ mid dyn)[27]? = some (.inl (0, 2, .inl (ξ.2.2.1 409))) := rfl
theorem xm_s409 (f : Nat → Int32) : (XM ξ mid dyn).set 27 (.inl (0, 2, .inl f)) = XM (xA ξ 409 f) mid dyn := rfl
theorem xm_a410 : (XM ξ mid dyn)[28]? = some (.inl (0, 2, .inl (ξ.2.2.1 410))) := rfl
theorem xm_s410 (f : Nat → Int32) : (XM ξ mid dyn).set 28 (.inl (0, 2, .inl f)) = XM (xA ξ 410 f) mid dyn := rfl
theorem xm_a411 : (XM ξ mid dyn)[29]? = some (.inl (0, 2, .inl (ξ.2.2.1 411))) := rfl
theorem xm_s411 (f : Nat → Int32) : (XM ξ mid dyn).set 29 (.inl (0, 2, .inl f)) = XM (xA ξ 411 f) mid dyn := rfl
theorem xm_a412 : (XM ξ mid dyn)[30]? = some (.inl (0, 2, .inl (ξ.2.2.1 412))) := rfl
theorem xm_s412 (f : Nat → Int32) : (XM ξ mid dyn).set 30 (.inl (0, 2, .inl f)) = XM (xA ξ 412 f) mid dyn := rfl
theorem xm_a413 : (XM ξ mid dyn)[31]? = some (.inl (0, 2, .inl (ξ.2.2.1 413))) := rfl
theorem xm_s413 (f : Nat → Int32) : (XM ξ mid dyn).set 31 (.inl (0, 2, .inl f)) = XM (xA ξ 413 f) mid dyn := rfl
theorem xm_a30 : (XM ξ mid dyn)[32]? = some (.inl (1, 20, .inr (.inl (ξ.2.2.2.1 30)))) := rfl
theorem xm_s30 (f : Nat → Int64) : (XM ξ mid dyn).set 32 (.inl (1, 20, .inr (.inl f))) = XM (xB ξ 30 f) mid dyn := rfl
theorem xm_a420 : (XM ξ mid dyn)[34]? = some (.inl (0, 80, .inl (ξ.2.2.1 420))) := rfl
theorem xm_s420 (f : Nat → Int32) : (XM ξ mid dyn).set 34 (.inl (0, 80, .inl f)) = XM (xA ξ 420 f) mid dyn := rfl
theorem xm_a421 : (XM ξ mid dyn)[35]? = some (.inl (0, 80, .inl (ξ.2.2.1 421))) := rfl
theorem xm_s421 (f : Nat → Int32) : (XM ξ mid dyn).set 35 (.inl (0, 80, .inl f)) = XM (xA ξ 421 f) mid dyn := rfl
theorem xm_a32 : (XM ξ mid dyn)[36]? = some (.inl (0, 2, .inl (ξ.2.2.1 32))) := rfl
theorem xm_s32 (f : Nat → Int32) : (XM ξ mid dyn).set 36 (.inl (0, 2, .inl f)) = XM (xA ξ 32 f) mid dyn := rfl
theorem xm_a33 : (XM ξ mid dyn)[37]? = some (.inl (0, 2, .inl (ξ.2.2.1 33))) := rfl
theorem xm_s33 (f : Nat → Int32) : (XM ξ mid dyn).set 37 (.inl (0, 2, .inl f)) = XM (xA ξ 33 f) mid dyn := rfl
theorem xm_a34 : (XM ξ mid dyn)[38]? = some (.inl (0, 2, .inl (ξ.2.2.1 34))) := rfl
theorem xm_s34 (f : Nat → Int32) : (XM ξ mid dyn).set 38 (.inl (0, 2, .inl f)) = XM (xA ξ 34 f) mid dyn := rfl
theorem xm_a38 : (XM ξ mid dyn)[39]? = some (.inl (0, 100, .inl (ξ.2.2.1 38))) := rfl
theorem xm_s38 (f : Nat → Int32) : (XM ξ mid dyn).set 39 (.inl (0, 100, .inl f)) = XM (xA ξ 38 f) mid dyn := rfl
theorem xm_a39 : (XM ξ mid dyn)[40]? = some (.inl (0, 100, .inl (ξ.2.2.1 39))) := rfl
theorem xm_s39 (f : Nat → Int32) : (XM ξ mid dyn).set 40 (.inl (0, 100, .inl f)) = XM (xA ξ 39 f) mid dyn := rfl
theorem xm_a40 : (XM ξ mid dyn)[41]? = some (.inl (0, 20, .inl (ξ.2.2.1 40))) := rfl
theorem xm_s40 (f : Nat → Int32) : (XM ξ mid dyn).set 41 (.inl (0, 20, .inl f)) = XM (xA ξ 40 f) mid dyn := rfl
theorem xm_a41 : (XM ξ mid dyn)[42]? = some (.inl (0, 20, .inl (ξ.2.2.1 41))) := rfl
theorem xm_s41 (f : Nat → Int32) : (XM ξ mid dyn).set 42 (.inl (0, 20, .inl f)) = XM (xA ξ 41 f) mid dyn := rfl
theorem xm_a42 : (XM ξ mid dyn)[43]? = some (.inl (0, 60, .inl (ξ.2.2.1 42))) := rfl
theorem xm_s42 (f : Nat → Int32) : (XM ξ mid dyn).set 43 (.inl (0, 60, .inl f)) = XM (xA ξ 42 f) mid dyn := rfl
theorem xm_a43 : (XM ξ mid dyn)[44]? = some (.inl (0, 60, .inl (ξ.2.2.1 43))) := rfl
theorem xm_s43 (f : Nat → Int32) : (XM ξ mid dyn).set 44 (.inl (0, 60, .inl f)) = XM (xA ξ 43 f) mid dyn := rfl
theorem xm_a44 : (XM ξ mid dyn)[45]? = some (.inl (0, 60, .inl (ξ.2.2.1 44))) := rfl
theorem xm_s44 (f : Nat → Int32) : (XM ξ mid dyn).set 45 (.inl (0, 60, .inl f)) = XM (xA ξ 44 f) mid dyn := rfl
theorem xm_a49 : (XM ξ mid dyn)[46]? = some (.inl (0, 7, .inl (ξ.2.2.1 49))) := rfl
theorem xm_s49 (f : Nat → Int32) : (XM ξ mid dyn).set 46 (.inl (0, 7, .inl f)) = XM (xA ξ 49 f) mid dyn := rfl
theorem xm_a50 : (XM ξ mid dyn)[47]? = some (.inl (0, 7, .inl (ξ.2.2.1 50))) := rfl
theorem xm_s50 (f : Nat → Int32) : (XM ξ mid dyn).set 47 (.inl (0, 7, .inl f)) = XM (xA ξ 50 f) mid dyn := rfl
theorem xm_a51 : (XM ξ mid dyn)[48]? = some (.inl (0, 7, .inl (ξ.2.2.1 51))) := rfl
theorem xm_s51 (f : Nat → Int32) : (XM ξ mid dyn).set 48 (.inl (0, 7, .inl f)) = XM (xA ξ 51 f) mid dyn := rfl
theorem xm_a52 : (XM ξ mid dyn)[49]? = some (.inl (0, 7, .inl (ξ.2.2.1 52))) := rfl
theorem xm_s52 (f : Nat → Int32) : (XM ξ mid dyn).set 49 (.inl (0, 7, .inl f)) = XM (xA ξ 52 f) mid dyn := rfl
theorem xm_a53 : (XM ξ mid dyn)[50]? = some (.inl (0, 7, .inl (ξ.2.2.1 53))) := rfl
theorem xm_s53 (f : Nat → Int32) : (XM ξ mid dyn).set 50 (.inl (0, 7, .inl f)) = XM (xA ξ 53 f) mid dyn := rfl
theorem xm_a54 : (XM ξ mid dyn)[51]? = some (.inl (0, 4, .inl (ξ.2.2.1 54))) := rfl
theorem xm_s54 (f : Nat → Int32) : (XM ξ mid dyn).set 51 (.inl (0, 4, .inl f)) = XM (xA ξ 54 f) mid dyn := rfl
theorem xm_a100 : (XM ξ mid dyn)[5]? = some (.inl (2, 500, .inl (ξ.2.2.1 100))) := rfl
theorem xm_s100 (f : Nat → Int32) : (XM ξ mid dyn).set 5 (.inl (2, 500, .inl f)) = XM (xA ξ 100 f) mid dyn := rfl
theorem xm_r2 : (XM ξ mid dyn)[2]? = some (.inl (7, 4, .inr (.inr (.inr (.inr (ξ.2.2.2.2.1 1)))))) := rfl
theorem xm_rs2 (f : Nat → Option Nat) : (XM ξ mid dyn).set 2 (.inl (7, 4, .inr (.inr (.inr (.inr (f)))))) = XM (xR ξ 1 f) mid dyn := rfl
theorem xm_r6 : (XM ξ mid dyn)[6]? = some (.inl (9, 40, .inr (.inr (.inr (.inr (ξ.2.2.2.2.1 6)))))) := rfl
theorem xm_rs6 (f : Nat → Option Nat) : (XM ξ mid dyn).set 6 (.inl (9, 40, .inr (.inr (.inr (.inr (f)))))) = XM (xR ξ 6 f) mid dyn := rfl
theorem xm_r7 : (XM ξ mid dyn)[7]? = some (.inl (9, 40, .inr (.inr (.inr (.inr (ξ.2.2.2.2.1 7)))))) := rfl
theorem xm_rs7 (f : Nat → Option Nat) : (XM ξ mid dyn).set 7 (.inl (9, 40, .inr (.inr (.inr (.inr (f)))))) = XM (xR ξ 7 f) mid dyn := rfl
theorem xm_r1 : (XM ξ mid dyn)[1]? = some (.inl (6, 4, .inr (.inr (.inr (.inr (trF)))))) := rfl
theorem xm_r17 : (XM ξ mid dyn)[17]? = some (.inl (5, 14, .inr (.inr (.inr (.inr (coF)))))) := rfl
theorem xm_r33 : (XM ξ mid dyn)[33]? = some (.inl (5, 2, .inr (.inr (.inr (.inr (riF)))))) := rfl
theorem xm_f4 (v : Option Nat) : (XM ξ mid dyn).set 0 (.inr (0, (xF ξ).set 4 (rfO v))) = XM (xP ξ 4 v) mid dyn := rfl
theorem xm_f5 (v : Option Nat) : (XM ξ mid dyn).set 0 (.inr (0, (xF ξ).set 5 (rfO v))) = XM (xP ξ 5 v) mid dyn := rfl
theorem xm_f6 (v : Int32) : (XM ξ mid dyn).set 0 (.inr (0, (xF ξ).set 6 (.int v))) = XM (xI ξ 6 v) mid dyn := rfl
theorem xm_f7 (v : Int32) : (XM ξ mid dyn).set 0 (.inr (0, (xF ξ).set 7 (.int v))) = XM (xI ξ 7 v) mid dyn := rfl
theorem xm_f8 (v : Int32) : (XM ξ mid dyn).set 0 (.inr (0, (xF ξ).set 8 (.int v))) = XM (xI ξ 8 v) mid dyn := rfl
theorem xm_f9 (v : Int32) : (XM ξ mid dyn).set 0 (.inr (0, (xF ξ).set 9 (.int v))) = XM (xI ξ 9 v) mid dyn := rfl
theorem xm_f10 (v : Int32) : (XM ξ mid dyn).set 0 (.inr (0, (xF ξ).set 10 (.int v))) = XM (xI ξ 10 v) mid dyn := rfl
theorem xm_f13 (v : Int32) : (XM ξ mid dyn).set 0 (.inr (0, (xF ξ).set 13 (.int v))) = XM (xI ξ 13 v) mid dyn := rfl
theorem xm_f14 (v : Int64) : (XM ξ mid dyn).set 0 (.inr (0, (xF ξ).set 14 (.long v))) = XM (xL ξ 14 v) mid dyn := rfl
theorem xm_f20 (v : Int32) : (XM ξ mid dyn).set 0 (.inr (0, (xF ξ).set 20 (.int v))) = XM (xI ξ 20 v) mid dyn := rfl
theorem xm_f21 (v : Int32) : (XM ξ mid dyn).set 0 (.inr (0, (xF ξ).set 21 (.int v))) = XM (xI ξ 21 v) mid dyn := rfl
theorem xm_f22 (v : Int32) : (XM ξ mid dyn).set 0 (.inr (0, (xF ξ).set 22 (.int v))) = XM (xI ξ 22 v) mid dyn := rfl
theorem xm_f23 (v : Int32) : (XM ξ mid dyn).set 0 (.inr (0, (xF ξ).set 23 (.int v))) = XM (xI ξ 23 v) mid dyn := rfl
theorem xm_f24 (v : Int32) : (XM ξ mid dyn).set 0 (.inr (0, (xF ξ).set 24 (.int v))) = XM (xI ξ 24 v) mid dyn := rfl
theorem xm_f25 (v : Int32) : (XM ξ mid dyn).set 0 (.inr (0, (xF ξ).set 25 (.int v))) = XM (xI ξ 25 v) mid dyn := rfl
theorem xm_f26 (v : Int32) : (XM ξ mid dyn).set 0 (.inr (0, (xF ξ).set 26 (.int v))) = XM (xI ξ 26 v) mid dyn := rfl
theorem xm_f35 (v : Int32) : (XM ξ mid dyn).set 0 (.inr (0, (xF ξ).set 35 (.int v))) = XM (xI ξ 35 v) mid dyn := rfl
theorem xm_f36 (v : Int32) : (XM ξ mid dyn).set 0 (.inr (0, (xF ξ).set 36 (.int v))) = XM (xI ξ 36 v) mid dyn := rfl
theorem xm_f37 (v : Int32) : (XM ξ mid dyn).set 0 (.inr (0, (xF ξ).set 37 (.int v))) = XM (xI ξ 37 v) mid dyn := rfl
theorem xm_f45 (v : Int32) : (XM ξ mid dyn).set 0 (.inr (0, (xF ξ).set 45 (.int v))) = XM (xI ξ 45 v) mid dyn := rfl
theorem xm_f46 (v : Int32) : (XM ξ mid dyn).set 0 (.inr (0, (xF ξ).set 46 (.int v))) = XM (xI ξ 46 v) mid dyn := rfl
theorem xm_f47 (v : Int32) : (XM ξ mid dyn).set 0 (.inr (0, (xF ξ).set 47 (.int v))) = XM (xI ξ 47 v) mid dyn := rfl
theorem xm_f48 (v : Int32) : (XM ξ mid dyn).set 0 (.inr (0, (xF ξ).set 48 (.int v))) = XM (xI ξ 48 v) mid dyn := rfl
theorem xm_f55 (v : Int32) : (XM ξ mid dyn).set 0 (.inr (0, (xF ξ).set 55 (.int v))) = XM (xI ξ 55 v) mid dyn := rfl
theorem xm_f56 (v : Int32) : (XM ξ mid dyn).set 0 (.inr (0, (xF ξ).set 56 (.int v))) = XM (xI ξ 56 v) mid dyn := rfl
theorem xm_f206 (v : Int32) : (XM ξ mid dyn).set 3 (.inr (1, (xG ξ).set 6 (.int v))) = XM (xI ξ 206 v) mid dyn := rfl
theorem xm_f207 (v : Int32) : (XM ξ mid dyn).set 3 (.inr (1, (xG ξ).set 7 (.int v))) = XM (xI ξ 207 v) mid dyn := rfl
theorem xm_f101 (v : Int32) : (XM ξ mid dyn).set 4 (.inr (2, (xH ξ).set 1 (.int v))) = XM (xI ξ 101 v) mid dyn := rfl
theorem xm_f102 (v : Int32) : (XM ξ mid dyn).set 4 (.inr (2, (xH ξ).set 2 (.int v))) = XM (xI ξ 102 v) mid dyn := rfl
theorem xm_f103 (v : Int32) : (XM ξ mid dyn).set 4 (.inr (2, (xH ξ).set 3 (.int v))) = XM (xI ξ 103 v) mid dyn := rfl
theorem xm_f104 (v : Int32) : (XM ξ mid dyn).set 4 (.inr (2, (xH ξ).set 4 (.int v))) = XM (xI ξ 104 v) mid dyn := rfl
theorem xm_f105 (v : Int32) : (XM ξ mid dyn).set 4 (.inr (2, (xH ξ).set 5 (.int v))) = XM (xI ξ 105 v) mid dyn := rfl
theorem xm_f106 (v : Int64) : (XM ξ mid dyn).set 4 (.inr (2, (xH ξ).set 6 (.long v))) = XM (xL ξ 106 v) mid dyn := rfl
theorem xm_len (hm : mid.length = 61) : (XM ξ mid dyn).length = 117 + dyn.length := by
  rw [XM, List.length_append, List.length_append, hm]
  have : (xW ξ).length = 56 := rfl
  omega
theorem xm_d (hm : mid.length = 61) (r : Nat) : (XM ξ mid dyn)[117 + r]? = dyn[r]? := by
  have h0 : (xW ξ).length = 56 := rfl
  rw [XM, List.getElem?_append_right (by omega), h0, List.getElem?_append_right (by omega), hm]
  congr 1; omega
theorem xm_ds (hm : mid.length = 61) (r : Nat) (c : ACell) : (XM ξ mid dyn).set (117 + r) c = XM ξ mid (dyn.set r c) := by
  have h0 : (xW ξ).length = 56 := rfl
  rw [XM, List.set_append_right _ _ (by omega), h0, List.set_append_right _ _ (by omega), hm, XM]
  congr 3; omega
theorem xm_push (c : ACell) : XM ξ mid dyn ++ [c] = XM ξ mid (dyn ++ [c]) := by
  rw [XM, XM, List.append_assoc, List.append_assoc]
theorem trF_at {j : Nat} (h : j < 4) : trF j = some (52 + j) := by
  rcases (show j = 0 ∨ j = 1 ∨ j = 2 ∨ j = 3 by omega) with rfl | rfl | rfl | rfl <;> rfl
theorem coF_at {j : Nat} (h : j < 14) : coF j = some (18 + j) := if_pos h
theorem riF_at {j : Nat} (h : j < 2) : riF j = some (34 + j) := if_pos h
theorem xm_tw {τ : Tw} {dyn : List ACell} {ξ : Xs} : XM ξ (.inr (4, twF τ) :: twA τ) dyn = TW (xW ξ) τ dyn := rfl
section
variable {cc : ByteArray} {X : Cx} {Qf : Qfun} {Qx : Qxun} {kc ks pc : Nat} {ls ls' : List (Option Value)} {rest : List Value}
theorem e_xputI {own : String} {idx ci k a : Nat} {ty : FieldType} {v : Int32} {fs : List Value} {M M' : List ACell} (hd : decode cc pc = .ok (.putfield idx, 3)) (ho : X.1 = own) (hf : FP own idx ci k false ty) (hv : okv ty (.int v) = true) (hM : M[a]? = some (.inr (ci, fs))) (hk : k < fs.length) (hs : M.set a (.inr (ci, fs.set k (.int v))) = M') (kk : E cc X Qf Qx kc ks (pc + 3) ls rest M') : E cc X Qf Qx kc ks pc ls (.int v :: .ref a :: rest) M :=
  e_putf hd ho hf (fun h => by cases h) hM hk hv (by rw [hs]; exact kk)
theorem e_xputL {own : String} {idx ci k a : Nat} {v : Int64} {fs : List Value} {M M' : List ACell} (hd : decode cc pc = .ok (.putfield idx, 3)) (ho : X.1 = own) (hf : FP own idx ci k false .long) (hM : M[a]? = some (.inr (ci, fs))) (hk : k < fs.length) (hs : M.set a (.inr (ci, fs.set k (.long v))) = M') (kk : E cc X Qf Qx kc ks (pc + 3) ls rest M') : E cc X Qf Qx kc ks pc ls (.long v :: .ref a :: rest) M :=
  e_putf hd ho hf (fun h => by cases h) hM hk rfl (by rw [hs]; exact kk)
end
end
