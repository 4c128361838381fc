/-! the classes, the arrays' types, the model's world -/
set_option maxRecDepth 100000
/-- of a Fault: its place alone -/
def TF6 : u_T := fun _ => (RX6, "at", "I", true)
abbrev vwCl : List vw_C := [(RX1, TX1, 32), (RX2, TX2, 7), (RX3, TX3, 53), (RX7, TX7, 8), (RX5, TX5, 4), (RX6, TF6, 1), (RX8, TX8, 8), (RX10, TX10, 6), (RX11, TX11, 5), (RX12, TX12, 3), (RX4, TX4, 3)]
/-- the array classes: int, long, boolean, byte -/
abbrev tyL (gI : Nat → ClassId) : List (ClassId × FieldType) := [(gI 0, .int), (gI 1, .long), (gI 2, .boolean), (gI 3, .byte), (gI 4, .object RX2), (gI 5, .object RX12), (gI 6, .array .int), (gI 7, .char), (gI 8, .short)]
def mxI (x y : Int32) : Int32 := if x < y then y else x
def mnI (x y : Int32) : Int32 := if y < x then y else x
def abI (x : Int32) : Int32 := if 0 ≤ x then x else 0 - x
theorem ct_nP {D : va_G} {cl : List vw_C} {H : Heap} : va_P D cl [] H := fun k q h => by simp at h
theorem ct_nD {A : Nat → Prop} : va_D A [] := ⟨fun i j p q h => by simp at h, fun k q h => by simp at h⟩
theorem up_rm0 (f : Nat → Int32) (k : Nat) (x : Int32) (y : Int32) : upd (upd f k x) k y = upd f k y := by
  funext j
  by_cases h : j = k <;> simp [upd, h]
theorem va_rm0 (f : Nat → (Nat → Int32)) (k : Nat) (x : (Nat → Int32)) (y : (Nat → Int32)) : va_up (va_up f k x) k y = va_up f k y := by
  funext j
  by_cases h : j = k <;> simp [va_up, h]
theorem up_rm1 (f : Nat → Int32) (k : Nat) (x : Int32) (k0 : Nat) (x0 : Int32) (y : Int32) : upd (upd (upd f k x) k0 x0) k y = upd (upd f k0 x0) k y := by
  funext j
  by_cases h : j = k <;> simp [upd, h]
theorem va_rm1 (f : Nat → (Nat → Int32)) (k : Nat) (x : (Nat → Int32)) (k0 : Nat) (x0 : (Nat → Int32)) (y : (Nat → Int32)) : va_up (va_up (va_up f k x) k0 x0) k y = va_up (va_up f k0 x0) k y := by
  funext j
  by_cases h : j = k <;> simp [va_up, h]
theorem up_rm2 (f : Nat → Int32) (k : Nat) (x : Int32) (k0 : Nat) (x0 : Int32) (k1 : Nat) (x1 : Int32) (y : Int32) : upd (upd (upd (upd f k x) k0 x0) k1 x1) k y = upd (upd (upd f k0 x0) k1 x1) k y := by
  funext j
  by_cases h : j = k <;> simp [upd, h]
theorem va_rm2 (f : Nat → (Nat → Int32)) (k : Nat) (x : (Nat → Int32)) (k0 : Nat) (x0 : (Nat → Int32)) (k1 : Nat) (x1 : (Nat → Int32)) (y : (Nat → Int32)) : va_up (va_up (va_up (va_up f k x) k0 x0) k1 x1) k y = va_up (va_up (va_up f k0 x0) k1 x1) k y := by
  funext j
  by_cases h : j = k <;> simp [va_up, h]
theorem up_rm3 (f : Nat → Int32) (k : Nat) (x : Int32) (k0 : Nat) (x0 : Int32) (k1 : Nat) (x1 : Int32) (k2 : Nat) (x2 : Int32) (y : Int32) : upd (upd (upd (upd (upd f k x) k0 x0) k1 x1) k2 x2) k y = upd (upd (upd (upd f k0 x0) k1 x1) k2 x2) k y := by
  funext j
  by_cases h : j = k <;> simp [upd, h]
theorem va_rm3 (f : Nat → (Nat → Int32)) (k : Nat) (x : (Nat → Int32)) (k0 : Nat) (x0 : (Nat → Int32)) (k1 : Nat) (x1 : (Nat → Int32)) (k2 : Nat) (x2 : (Nat → Int32)) (y : (Nat → Int32)) : va_up (va_up (va_up (va_up (va_up f k x) k0 x0) k1 x1) k2 x2) k y = va_up (va_up (va_up (va_up f k0 x0) k1 x1) k2 x2) k y := by
  funext j
  by_cases h : j = k <;> simp [va_up, h]
theorem up_rm4 (f : Nat → Int32) (k : Nat) (x : Int32) (k0 : Nat) (x0 : Int32) (k1 : Nat) (x1 : Int32) (k2 : Nat) (x2 : Int32) (k3 : Nat) (x3 : Int32) (y : Int32) : upd (upd (upd (upd (upd (upd f k x) k0 x0) k1 x1) k2 x2) k3 x3) k y = upd (upd (upd (upd (upd f k0 x0) k1 x1) k2 x2) k3 x3) k y := by
  funext j
  by_cases h : j = k <;> simp [upd, h]
theorem va_rm4 (f : Nat → (Nat → Int32)) (k : Nat) (x : (Nat → Int32)) (k0 : Nat) (x0 : (Nat → Int32)) (k1 : Nat) (x1 : (Nat → Int32)) (k2 : Nat) (x2 : (Nat → Int32)) (k3 : Nat) (x3 : (Nat → Int32)) (y : (Nat → Int32)) : va_up (va_up (va_up (va_up (va_up (va_up f k x) k0 x0) k1 x1) k2 x2) k3 x3) k y = va_up (va_up (va_up (va_up (va_up f k0 x0) k1 x1) k2 x2) k3 x3) k y := by
  funext j
  by_cases h : j = k <;> simp [va_up, h]
theorem up_rm5 (f : Nat → Int32) (k : Nat) (x : Int32) (k0 : Nat) (x0 : Int32) (k1 : Nat) (x1 : Int32) (k2 : Nat) (x2 : Int32) (k3 : Nat) (x3 : Int32) (k4 : Nat) (x4 : Int32) (y : Int32) : upd (upd (upd (upd (upd (upd (upd f k x) k0 x0) k1 x1) k2 x2) k3 x3) k4 x4) k y = upd (upd (upd (upd (upd (upd f k0 x0) k1 x1) k2 x2) k3 x3) k4 x4) k y := by
  funext j
  by_cases h : j = k <;> simp [upd, h]
theorem va_rm5 (f : Nat → (Nat → Int32)) (k : Nat) (x : (Nat → Int32)) (k0 : Nat) (x0 : (Nat → Int32)) (k1 : Nat) (x1 : (Nat → Int32)) (k2 : Nat) (x2 : (Nat → Int32)) (k3 : Nat) (x3 : (Nat → Int32)) (k4 : Nat) (x4 : (Nat → Int32)) (y : (Nat → Int32)) : va_up (va_up (va_up (va_up (va_up (va_up (va_up f k x) k0 x0) k1 x1) k2 x2) k3 x3) k4 x4) k y = va_up (va_up (va_up (va_up (va_up (va_up f k0 x0) k1 x1) k2 x2) k3 x3) k4 x4) k y := by
  funext j
  by_cases h : j = k <;> simp [va_up, h]
theorem up_rm6 (f : Nat → Int32) (k : Nat) (x : Int32) (k0 : Nat) (x0 : Int32) (k1 : Nat) (x1 : Int32) (k2 : Nat) (x2 : Int32) (k3 : Nat) (x3 : Int32) (k4 : Nat) (x4 : Int32) (k5 : Nat) (x5 : Int32) (y : Int32) : upd (upd (upd (upd (upd (upd (upd (upd f k x) k0 x0) k1 x1) k2 x2) k3 x3) k4 x4) k5 x5) k y = upd (upd (upd (upd (upd (upd (upd f k0 x0) k1 x1) k2 x2) k3 x3) k4 x4) k5 x5) k y := by
  funext j
  by_cases h : j = k <;> simp [upd, h]
theorem va_rm6 (f : Nat → (Nat → Int32)) (k : Nat) (x : (Nat → Int32)) (k0 : Nat) (x0 : (Nat → Int32)) (k1 : Nat) (x1 : (Nat → Int32)) (k2 : Nat) (x2 : (Nat → Int32)) (k3 : Nat) (x3 : (Nat → Int32)) (k4 : Nat) (x4 : (Nat → Int32)) (k5 : Nat) (x5 : (Nat → Int32)) (y : (Nat → Int32)) : va_up (va_up (va_up (va_up (va_up (va_up (va_up (va_up f k x) k0 x0) k1 x1) k2 x2) k3 x3) k4 x4) k5 x5) k y = va_up (va_up (va_up (va_up (va_up (va_up (va_up f k0 x0) k1 x1) k2 x2) k3 x3) k4 x4) k5 x5) k y := by
  funext j
  by_cases h : j = k <;> simp [va_up, h]
theorem up_rm7 (f : Nat → Int32) (k : Nat) (x : Int32) (k0 : Nat) (x0 : Int32) (k1 : Nat) (x1 : Int32) (k2 : Nat) (x2 : Int32) (k3 : Nat) (x3 : Int32) (k4 : Nat) (x4 : Int32) (k5 : Nat) (x5 : Int32) (k6 : Nat) (x6 : Int32) (y : Int32) : upd (upd (upd (upd (upd (upd (upd (upd (upd f k x) k0 x0) k1 x1) k2 x2) k3 x3) k4 x4) k5 x5) k6 x6) k y = upd (upd (upd (upd (upd (upd (upd (upd f k0 x0) k1 x1) k2 x2) k3 x3) k4 x4) k5 x5) k6 x6) k y := by
  funext j
  by_cases h : j = k <;> simp [upd, h]
theorem va_rm7 (f : Nat → (Nat → Int32)) (k : Nat) (x : (Nat → Int32)) (k0 : Nat) (x0 : (Nat → Int32)) (k1 : Nat) (x1 : (Nat → Int32)) (k2 : Nat) (x2 : (Nat → Int32)) (k3 : Nat) (x3 : (Nat → Int32)) (k4 : Nat) (x4 : (Nat → Int32)) (k5 : Nat) (x5 : (Nat → Int32)) (k6 : Nat) (x6 : (Nat → Int32)) (y : (Nat → Int32)) : va_up (va_up (va_up (va_up (va_up (va_up (va_up (va_up (va_up f k x) k0 x0) k1 x1) k2 x2) k3 x3) k4 x4) k5 x5) k6 x6) k y = va_up (va_up (va_up (va_up (va_up (va_up (va_up (va_up f k0 x0) k1 x1) k2 x2) k3 x3) k4 x4) k5 x5) k6 x6) k y := by
  funext j
  by_cases h : j = k <;> simp [va_up, h]
theorem up_rm8 (f : Nat → Int32) (k : Nat) (x : Int32) (k0 : Nat) (x0 : Int32) (k1 : Nat) (x1 : Int32) (k2 : Nat) (x2 : Int32) (k3 : Nat) (x3 : Int32) (k4 : Nat) (x4 : Int32) (k5 : Nat) (x5 : Int32) (k6 : Nat) (x6 : Int32) (k7 : Nat) (x7 : Int32) (y : Int32) : upd (upd (upd (upd (upd (upd (upd (upd (upd (upd f k x) k0 x0) k1 x1) k2 x2) k3 x3) k4 x4) k5 x5) k6 x6) k7 x7) k y = upd (upd (upd (upd (upd (upd (upd (upd (upd f k0 x0) k1 x1) k2 x2) k3 x3) k4 x4) k5 x5) k6 x6) k7 x7) k y := by
  funext j
  by_cases h : j = k <;> simp [upd, h]
theorem va_rm8 (f : Nat → (Nat → Int32)) (k : Nat) (x : (Nat → Int32)) (k0 : Nat) (x0 : (Nat → Int32)) (k1 : Nat) (x1 : (Nat → Int32)) (k2 : Nat) (x2 : (Nat → Int32)) (k3 : Nat) (x3 : (Nat → Int32)) (k4 : Nat) (x4 : (Nat → Int32)) (k5 : Nat) (x5 : (Nat → Int32)) (k6 : Nat) (x6 : (Nat → Int32)) (k7 : Nat) (x7 : (Nat → Int32)) (y : (Nat → Int32)) : va_up (va_up (va_up (va_up (va_up (va_up (va_up (va_up (va_up (va_up f k x) k0 x0) k1 x1) k2 x2) k3 x3) k4 x4) k5 x5) k6 x6) k7 x7) k y = va_up (va_up (va_up (va_up (va_up (va_up (va_up (va_up (va_up f k0 x0) k1 x1) k2 x2) k3 x3) k4 x4) k5 x5) k6 x6) k7 x7) k y := by
  funext j
  by_cases h : j = k <;> simp [va_up, h]
theorem up_rm9 (f : Nat → Int32) (k : Nat) (x : Int32) (k0 : Nat) (x0 : Int32) (k1 : Nat) (x1 : Int32) (k2 : Nat) (x2 : Int32) (k3 : Nat) (x3 : Int32) (k4 : Nat) (x4 : Int32) (k5 : Nat) (x5 : Int32) (k6 : Nat) (x6 : Int32) (k7 : Nat) (x7 : Int32) (k8 : Nat) (x8 : Int32) (y : Int32) : upd (upd (upd (upd (upd (upd (upd (upd (upd (upd (upd f k x) k0 x0) k1 x1) k2 x2) k3 x3) k4 x4) k5 x5) k6 x6) k7 x7) k8 x8) k y = upd (upd (upd (upd (upd (upd (upd (upd (upd (upd f k0 x0) k1 x1) k2 x2) k3 x3) k4 x4) k5 x5) k6 x6) k7 x7) k8 x8) k y := by
  funext j
  by_cases h : j = k <;> simp [upd, h]
theorem va_rm9 (f : Nat → (Nat → Int32)) (k : Nat) (x : (Nat → Int32)) (k0 : Nat) (x0 : (Nat → Int32)) (k1 : Nat) (x1 : (Nat → Int32)) (k2 : Nat) (x2 : (Nat → Int32)) (k3 : Nat) (x3 : (Nat → Int32)) (k4 : Nat) (x4 : (Nat → Int32)) (k5 : Nat) (x5 : (Nat → Int32)) (k6 : Nat) (x6 : (Nat → Int32)) (k7 : Nat) (x7 : (Nat → Int32)) (k8 : Nat) (x8 : (Nat → Int32)) (y : (Nat → Int32)) : va_up (va_up (va_up (va_up (va_up (va_up (va_up (va_up (va_up (va_up (va_up f k x) k0 x0) k1 x1) k2 x2) k3 x3) k4 x4) k5 x5) k6 x6) k7 x7) k8 x8) k y = va_up (va_up (va_up (va_up (va_up (va_up (va_up (va_up (va_up (va_up f k0 x0) k1 x1) k2 x2) k3 x3) k4 x4) k5 x5) k6 x6) k7 x7) k8 x8) k y := by
  funext j
  by_cases h : j = k <;> simp [va_up, h]
/-- the fields of the model -/
def fsM (ad : Nat → Nat) (fd : Nat → Int32) : List Value := [.int (fd 0), .int (fd 1), .ref (ad 2), .int (fd 3), .int (fd 4), .int (fd 5), .ref (ad 6), .ref (ad 7), .ref (ad 8), .ref (ad 9), .ref (ad 10), .ref (ad 11), .ref (ad 12), .ref (ad 13), .ref (ad 14), .int (fd 15), .int (fd 16), .int (fd 17), .int (fd 18), .ref (ad 19), .int (fd 20), .ref (ad 21), .ref (ad 22), .int (fd 23), .int (fd 24), .ref (ad 25), .ref (ad 26), .int (fd 27), .ref (ad 28), .int (fd 29), .ref (ad 30), .int (fd 31), .ref (ad 32), .ref (ad 33), .ref (ad 34), .int (fd 35), .int (fd 36), .ref (ad 37), .ref (ad 38), .ref (ad 39), .int (fd 40), .ref (ad 41), .int (fd 42), .ref (ad 43), .ref (ad 44), .ref (ad 45), .ref (ad 46), .ref (ad 47), .int (fd 48), .int (fd 49), .ref (ad 50), .ref (ad 51), .ref (ad 52)]
/-- the model's world: fd its numbers by their fields, ar its arrays by their fields, lw its row of longs -/
def wm (gI : Nat → ClassId) (o : Nat) (ad : Nat → Nat) (fd : Nat → Int32) (ar : Nat → Nat → Int32) (lw : Nat → Int64) : va_W := [(o, .inr (2, fsM ad fd)), (ad 2, .inl (gI 1, 24, .inr (.inl lw))), (ad 6, .inl (gI 0, 12, .inl (ar 6))), (ad 7, .inl (gI 0, 12, .inl (ar 7))), (ad 8, .inl (gI 0, 8, .inl (ar 8))), (ad 9, .inl (gI 0, 8, .inl (ar 9))), (ad 10, .inl (gI 0, 8, .inl (ar 10))), (ad 11, .inl (gI 0, 2, .inl (ar 11))), (ad 12, .inl (gI 0, 43, .inl (ar 12))), (ad 13, .inl (gI 0, 43, .inl (ar 13))), (ad 14, .inl (gI 0, 80, .inl (ar 14))), (ad 19, .inl (gI 0, 36, .inl (ar 19))), (ad 21, .inl (gI 0, 80, .inl (ar 21))), (ad 22, .inl (gI 0, 80, .inl (ar 22))), (ad 25, .inl (gI 0, 80, .inl (ar 25))), (ad 26, .inl (gI 0, 4, .inl (ar 26))), (ad 28, .inl (gI 0, 688, .inl (ar 28))), (ad 30, .inl (gI 0, 12, .inl (ar 30))), (ad 32, .inl (gI 0, 60, .inl (ar 32))), (ad 33, .inl (gI 0, 60, .inl (ar 33))), (ad 34, .inl (gI 0, 60, .inl (ar 34))), (ad 37, .inl (gI 0, 12, .inl (ar 37))), (ad 38, .inl (gI 0, 8, .inl (ar 38))), (ad 39, .inl (gI 0, 8, .inl (ar 39))), (ad 41, .inl (gI 0, 80, .inl (ar 41))), (ad 43, .inl (gI 0, 12, .inl (ar 43))), (ad 44, .inl (gI 0, 12, .inl (ar 44))), (ad 45, .inl (gI 0, 8, .inl (ar 45))), (ad 46, .inl (gI 0, 8, .inl (ar 46))), (ad 47, .inl (gI 0, 8, .inl (ar 47))), (ad 50, .inl (gI 2, 3, .inl (ar 50))), (ad 51, .inl (gI 0, 3, .inl (ar 51))), (ad 52, .inl (gI 0, 129, .inl (ar 52)))]
theorem wmF_0 {gI : Nat → ClassId} {o : Nat} {ad : Nat → Nat} {fd : Nat → Int32} {ar : Nat → Nat → Int32} {lw : Nat → Int64} {x : Int32} : (wm gI o ad fd ar lw).set 0 (o, .inr (2, (fsM ad fd).set 0 (.int x))) = wm gI o ad (upd fd 0 x) ar lw := rfl
theorem wmF_1 {gI : Nat → ClassId} {o : Nat} {ad : Nat → Nat} {fd : Nat → Int32} {ar : Nat → Nat → Int32} {lw : Nat → Int64} {x : Int32} : (wm gI o ad fd ar lw).set 0 (o, .inr (2, (fsM ad fd).set 1 (.int x))) = wm gI o ad (upd fd 1 x) ar lw := rfl
theorem wmF_3 {gI : Nat → ClassId} {o : Nat} {ad : Nat → Nat} {fd : Nat → Int32} {ar : Nat → Nat → Int32} {lw : Nat → Int64} {x : Int32} : (wm gI o ad fd ar lw).set 0 (o, .inr (2, (fsM ad fd).set 3 (.int x))) = wm gI o ad (upd fd 3 x) ar lw := rfl
theorem wmF_4 {gI : Nat → ClassId} {o : Nat} {ad : Nat → Nat} {fd : Nat → Int32} {ar : Nat → Nat → Int32} {lw : Nat → Int64} {x : Int32} : (wm gI o ad fd ar lw).set 0 (o, .inr (2, (fsM ad fd).set 4 (.int x))) = wm gI o ad (upd fd 4 x) ar lw := rfl
theorem wmF_5 {gI : Nat → ClassId} {o : Nat} {ad : Nat → Nat} {fd : Nat → Int32} {ar : Nat → Nat → Int32} {lw : Nat → Int64} {x : Int32} : (wm gI o ad fd ar lw).set 0 (o, .inr (2, (fsM ad fd).set 5 (.int x))) = wm gI o ad (upd fd 5 x) ar lw := rfl
theorem wmA_6 {gI : Nat → ClassId} {o : Nat} {ad : Nat → Nat} {fd : Nat → Int32} {ar : Nat → Nat → Int32} {lw : Nat → Int64} {f : Nat → Int32} : (wm gI o ad fd ar lw).set 2 (ad 6, .inl (gI 0, 12, .inl f)) = wm gI o ad fd (va_up ar 6 f) lw := rfl
theorem wmA_7 {gI : Nat → ClassId} {o : Nat} {ad : Nat → Nat} {fd : Nat → Int32} {ar : Nat → Nat → Int32} {lw : Nat → Int64} {f : Nat → Int32} : (wm gI o ad fd ar lw).set 3 (ad 7, .inl (gI 0, 12, .inl f)) = wm gI o ad fd (va_up ar 7 f) lw := rfl
theorem wmA_8 {gI : Nat → ClassId} {o : Nat} {ad : Nat → Nat} {fd : Nat → Int32} {ar : Nat → Nat → Int32} {lw : Nat → Int64} {f : Nat → Int32} : (wm gI o ad fd ar lw).set 4 (ad 8, .inl (gI 0, 8, .inl f)) = wm gI o ad fd (va_up ar 8 f) lw := rfl
theorem wmA_9 {gI : Nat → ClassId} {o : Nat} {ad : Nat → Nat} {fd : Nat → Int32} {ar : Nat → Nat → Int32} {lw : Nat → Int64} {f : Nat → Int32} : (wm gI o ad fd ar lw).set 5 (ad 9, .inl (gI 0, 8, .inl f)) = wm gI o ad fd (va_up ar 9 f) lw := rfl
theorem wmA_10 {gI : Nat → ClassId} {o : Nat} {ad : Nat → Nat} {fd : Nat → Int32} {ar : Nat → Nat → Int32} {lw : Nat → Int64} {f : Nat → Int32} : (wm gI o ad fd ar lw).set 6 (ad 10, .inl (gI 0, 8, .inl f)) = wm gI o ad fd (va_up ar 10 f) lw := rfl
theorem wmA_11 {gI : Nat → ClassId} {o : Nat} {ad : Nat → Nat} {fd : Nat → Int32} {ar : Nat → Nat → Int32} {lw : Nat → Int64} {f : Nat → Int32} : (wm gI o ad fd ar lw).set 7 (ad 11, .inl (gI 0, 2, .inl f)) = wm gI o ad fd (va_up ar 11 f) lw := rfl
theorem wmA_12 {gI : Nat → ClassId} {o : Nat} {ad : Nat → Nat} {fd : Nat → Int32} {ar : Nat → Nat → Int32} {lw : Nat → Int64} {f : Nat → Int32} : (wm gI o ad fd ar lw).set 8 (ad 12, .inl (gI 0, 43, .inl f)) = wm gI o ad fd (va_up ar 12 f) lw := rfl
theorem wmA_13 {gI : Nat → ClassId} {o : Nat} {ad : Nat → Nat} {fd : Nat → Int32} {ar : Nat → Nat → Int32} {lw : Nat → Int64} {f : Nat → Int32} : (wm gI o ad fd ar lw).set 9 (ad 13, .inl (gI 0, 43, .inl f)) = wm gI o ad fd (va_up ar 13 f) lw := rfl
theorem wmA_14 {gI : Nat → ClassId} {o : Nat} {ad : Nat → Nat} {fd : Nat → Int32} {ar : Nat → Nat → Int32} {lw : Nat → Int64} {f : Nat → Int32} : (wm gI o ad fd ar lw).set 10 (ad 14, .inl (gI 0, 80, .inl f)) = wm gI o ad fd (va_up ar 14 f) lw := rfl
theorem wmF_15 {gI : Nat → ClassId} {o : Nat} {ad : Nat → Nat} {fd : Nat → Int32} {ar : Nat → Nat → Int32} {lw : Nat → Int64} {x : Int32} : (wm gI o ad fd ar lw).set 0 (o, .inr (2, (fsM ad fd).set 15 (.int x))) = wm gI o ad (upd fd 15 x) ar lw := rfl
theorem wmF_16 {gI : Nat → ClassId} {o : Nat} {ad : Nat → Nat} {fd : Nat → Int32} {ar : Nat → Nat → Int32} {lw : Nat → Int64} {x : Int32} : (wm gI o ad fd ar lw).set 0 (o, .inr (2, (fsM ad fd).set 16 (.int x))) = wm gI o ad (upd fd 16 x) ar lw := rfl
theorem wmF_17 {gI : Nat → ClassId} {o : Nat} {ad : Nat → Nat} {fd : Nat → Int32} {ar : Nat → Nat → Int32} {lw : Nat → Int64} {x : Int32} : (wm gI o ad fd ar lw).set 0 (o, .inr (2, (fsM ad fd).set 17 (.int x))) = wm gI o ad (upd fd 17 x) ar lw := rfl
theorem wmF_18 {gI : Nat → ClassId} {o : Nat} {ad : Nat → Nat} {fd : Nat → Int32} {ar : Nat → Nat → Int32} {lw : Nat → Int64} {x : Int32} : (wm gI o ad fd ar lw).set 0 (o, .inr (2, (fsM ad fd).set 18 (.int x))) = wm gI o ad (upd fd 18 x) ar lw := rfl
theorem wmA_19 {gI : Nat → ClassId} {o : Nat} {ad : Nat → Nat} {fd : Nat → Int32} {ar : Nat → Nat → Int32} {lw : Nat → Int64} {f : Nat → Int32} : (wm gI o ad fd ar lw).set 11 (ad 19, .inl (gI 0, 36, .inl f)) = wm gI o ad fd (va_up ar 19 f) lw := rfl
theorem wmF_20 {gI : Nat → ClassId} {o : Nat} {ad : Nat → Nat} {fd : Nat → Int32} {ar : Nat → Nat → Int32} {lw : Nat → Int64} {x : Int32} : (wm gI o ad fd ar lw).set 0 (o, .inr (2, (fsM ad fd).set 20 (.int x))) = wm gI o ad (upd fd 20 x) ar lw := rfl
theorem wmA_21 {gI : Nat → ClassId} {o : Nat} {ad : Nat → Nat} {fd : Nat → Int32} {ar : Nat → Nat → Int32} {lw : Nat → Int64} {f : Nat → Int32} : (wm gI o ad fd ar lw).set 12 (ad 21, .inl (gI 0, 80, .inl f)) = wm gI o ad fd (va_up ar 21 f) lw := rfl
theorem wmA_22 {gI : Nat → ClassId} {o : Nat} {ad : Nat → Nat} {fd : Nat → Int32} {ar : Nat → Nat → Int32} {lw : Nat → Int64} {f : Nat → Int32} : (wm gI o ad fd ar lw).set 13 (ad 22, .inl (gI 0, 80, .inl f)) = wm gI o ad fd (va_up ar 22 f) lw := rfl
theorem wmF_23 {gI : Nat → ClassId} {o : Nat} {ad : Nat → Nat} {fd : Nat → Int32} {ar : Nat → Nat → Int32} {lw : Nat → Int64} {x : Int32} : (wm gI o ad fd ar lw).set 0 (o, .inr (2, (fsM ad fd).set 23 (.int x))) = wm gI o ad (upd fd 23 x) ar lw := rfl
theorem wmF_24 {gI : Nat → ClassId} {o : Nat} {ad : Nat → Nat} {fd : Nat → Int32} {ar : Nat → Nat → Int32} {lw : Nat → Int64} {x : Int32} : (wm gI o ad fd ar lw).set 0 (o, .inr (2, (fsM ad fd).set 24 (.int x))) = wm gI o ad (upd fd 24 x) ar lw := rfl
theorem wmA_25 {gI : Nat → ClassId} {o : Nat} {ad : Nat → Nat} {fd : Nat → Int32} {ar : Nat → Nat → Int32} {lw : Nat → Int64} {f : Nat → Int32} : (wm gI o ad fd ar lw).set 14 (ad 25, .inl (gI 0, 80, .inl f)) = wm gI o ad fd (va_up ar 25 f) lw := rfl
theorem wmA_26 {gI : Nat → ClassId} {o : Nat} {ad : Nat → Nat} {fd : Nat → Int32} {ar : Nat → Nat → Int32} {lw : Nat → Int64} {f : Nat → Int32} : (wm gI o ad fd ar lw).set 15 (ad 26, .inl (gI 0, 4, .inl f)) = wm gI o ad fd (va_up ar 26 f) lw := rfl
theorem wmF_27 {gI : Nat → ClassId} {o : Nat} {ad : Nat → Nat} {fd : Nat → Int32} {ar : Nat → Nat → Int32} {lw : Nat → Int64} {x : Int32} : (wm gI o ad fd ar lw).set 0 (o, .inr (2, (fsM ad fd).set 27 (.int x))) = wm gI o ad (upd fd 27 x) ar lw := rfl
theorem wmA_28 {gI : Nat → ClassId} {o : Nat} {ad : Nat → Nat} {fd : Nat → Int32} {ar : Nat → Nat → Int32} {lw : Nat → Int64} {f : Nat → Int32} : (wm gI o ad fd ar lw).set 16 (ad 28, .inl (gI 0, 688, .inl f)) = wm gI o ad fd (va_up ar 28 f) lw := rfl
theorem wmF_29 {gI : Nat → ClassId} {o : Nat} {ad : Nat → Nat} {fd : Nat → Int32} {ar : Nat → Nat → Int32} {lw : Nat → Int64} {x : Int32} : (wm gI o ad fd ar lw).set 0 (o, .inr (2, (fsM ad fd).set 29 (.int x))) = wm gI o ad (upd fd 29 x) ar lw := rfl
theorem wmA_30 {gI : Nat → ClassId} {o : Nat} {ad : Nat → Nat} {fd : Nat → Int32} {ar : Nat → Nat → Int32} {lw : Nat → Int64} {f : Nat → Int32} : (wm gI o ad fd ar lw).set 17 (ad 30, .inl (gI 0, 12, .inl f)) = wm gI o ad fd (va_up ar 30 f) lw := rfl
theorem wmF_31 {gI : Nat → ClassId} {o : Nat} {ad : Nat → Nat} {fd : Nat → Int32} {ar : Nat → Nat → Int32} {lw : Nat → Int64} {x : Int32} : (wm gI o ad fd ar lw).set 0 (o, .inr (2, (fsM ad fd).set 31 (.int x))) = wm gI o ad (upd fd 31 x) ar lw := rfl
theorem wmA_32 {gI : Nat → ClassId} {o : Nat} {ad : Nat → Nat} {fd : Nat → Int32} {ar : Nat → Nat → Int32} {lw : Nat → Int64} {f : Nat → Int32} : (wm gI o ad fd ar lw).set 18 (ad 32, .inl (gI 0, 60, .inl f)) = wm gI o ad fd (va_up ar 32 f) lw := rfl
theorem wmA_33 {gI : Nat → ClassId} {o : Nat} {ad : Nat → Nat} {fd : Nat → Int32} {ar : Nat → Nat → Int32} {lw : Nat → Int64} {f : Nat → Int32} : (wm gI o ad fd ar lw).set 19 (ad 33, .inl (gI 0, 60, .inl f)) = wm gI o ad fd (va_up ar 33 f) lw := rfl
theorem wmA_34 {gI : Nat → ClassId} {o : Nat} {ad : Nat → Nat} {fd : Nat → Int32} {ar : Nat → Nat → Int32} {lw : Nat → Int64} {f : Nat → Int32} : (wm gI o ad fd ar lw).set 20 (ad 34, .inl (gI 0, 60, .inl f)) = wm gI o ad fd (va_up ar 34 f) lw := rfl
theorem wmF_35 {gI : Nat → ClassId} {o : Nat} {ad : Nat → Nat} {fd : Nat → Int32} {ar : Nat → Nat → Int32} {lw : Nat → Int64} {x : Int32} : (wm gI o ad fd ar lw).set 0 (o, .inr (2, (fsM ad fd).set 35 (.int x))) = wm gI o ad (upd fd 35 x) ar lw := rfl
theorem wmF_36 {gI : Nat → ClassId} {o : Nat} {ad : Nat → Nat} {fd : Nat → Int32} {ar : Nat → Nat → Int32} {lw : Nat → Int64} {x : Int32} : (wm gI o ad fd ar lw).set 0 (o, .inr (2, (fsM ad fd).set 36 (.int x))) = wm gI o ad (upd fd 36 x) ar lw := rfl
theorem wmA_37 {gI : Nat → ClassId} {o : Nat} {ad : Nat → Nat} {fd : Nat → Int32} {ar : Nat → Nat → Int32} {lw : Nat → Int64} {f : Nat → Int32} : (wm gI o ad fd ar lw).set 21 (ad 37, .inl (gI 0, 12, .inl f)) = wm gI o ad fd (va_up ar 37 f) lw := rfl
theorem wmA_38 {gI : Nat → ClassId} {o : Nat} {ad : Nat → Nat} {fd : Nat → Int32} {ar : Nat → Nat → Int32} {lw : Nat → Int64} {f : Nat → Int32} : (wm gI o ad fd ar lw).set 22 (ad 38, .inl (gI 0, 8, .inl f)) = wm gI o ad fd (va_up ar 38 f) lw := rfl
theorem wmA_39 {gI : Nat → ClassId} {o : Nat} {ad : Nat → Nat} {fd : Nat → Int32} {ar : Nat → Nat → Int32} {lw : Nat → Int64} {f : Nat → Int32} : (wm gI o ad fd ar lw).set 23 (ad 39, .inl (gI 0, 8, .inl f)) = wm gI o ad fd (va_up ar 39 f) lw := rfl
theorem wmF_40 {gI : Nat → ClassId} {o : Nat} {ad : Nat → Nat} {fd : Nat → Int32} {ar : Nat → Nat → Int32} {lw : Nat → Int64} {x : Int32} : (wm gI o ad fd ar lw).set 0 (o, .inr (2, (fsM ad fd).set 40 (.int x))) = wm gI o ad (upd fd 40 x) ar lw := rfl
theorem wmA_41 {gI : Nat → ClassId} {o : Nat} {ad : Nat → Nat} {fd : Nat → Int32} {ar : Nat → Nat → Int32} {lw : Nat → Int64} {f : Nat → Int32} : (wm gI o ad fd ar lw).set 24 (ad 41, .inl (gI 0, 80, .inl f)) = wm gI o ad fd (va_up ar 41 f) lw := rfl
theorem wmF_42 {gI : Nat → ClassId} {o : Nat} {ad : Nat → Nat} {fd : Nat → Int32} {ar : Nat → Nat → Int32} {lw : Nat → Int64} {x : Int32} : (wm gI o ad fd ar lw).set 0 (o, .inr (2, (fsM ad fd).set 42 (.int x))) = wm gI o ad (upd fd 42 x) ar lw := rfl
theorem wmA_43 {gI : Nat → ClassId} {o : Nat} {ad : Nat → Nat} {fd : Nat → Int32} {ar : Nat → Nat → Int32} {lw : Nat → Int64} {f : Nat → Int32} : (wm gI o ad fd ar lw).set 25 (ad 43, .inl (gI 0, 12, .inl f)) = wm gI o ad fd (va_up ar 43 f) lw := rfl
theorem wmA_44 {gI : Nat → ClassId} {o : Nat} {ad : Nat → Nat} {fd : Nat → Int32} {ar : Nat → Nat → Int32} {lw : Nat → Int64} {f : Nat → Int32} : (wm gI o ad fd ar lw).set 26 (ad 44, .inl (gI 0, 12, .inl f)) = wm gI o ad fd (va_up ar 44 f) lw := rfl
theorem wmA_45 {gI : Nat → ClassId} {o : Nat} {ad : Nat → Nat} {fd : Nat → Int32} {ar : Nat → Nat → Int32} {lw : Nat → Int64} {f : Nat → Int32} : (wm gI o ad fd ar lw).set 27 (ad 45, .inl (gI 0, 8, .inl f)) = wm gI o ad fd (va_up ar 45 f) lw := rfl
theorem wmA_46 {gI : Nat → ClassId} {o : Nat} {ad : Nat → Nat} {fd : Nat → Int32} {ar : Nat → Nat → Int32} {lw : Nat → Int64} {f : Nat → Int32} : (wm gI o ad fd ar lw).set 28 (ad 46, .inl (gI 0, 8, .inl f)) = wm gI o ad fd (va_up ar 46 f) lw := rfl
theorem wmA_47 {gI : Nat → ClassId} {o : Nat} {ad : Nat → Nat} {fd : Nat → Int32} {ar : Nat → Nat → Int32} {lw : Nat → Int64} {f : Nat → Int32} : (wm gI o ad fd ar lw).set 29 (ad 47, .inl (gI 0, 8, .inl f)) = wm gI o ad fd (va_up ar 47 f) lw := rfl
theorem wmF_48 {gI : Nat → ClassId} {o : Nat} {ad : Nat → Nat} {fd : Nat → Int32} {ar : Nat → Nat → Int32} {lw : Nat → Int64} {x : Int32} : (wm gI o ad fd ar lw).set 0 (o, .inr (2, (fsM ad fd).set 48 (.int x))) = wm gI o ad (upd fd 48 x) ar lw := rfl
theorem wmF_49 {gI : Nat → ClassId} {o : Nat} {ad : Nat → Nat} {fd : Nat → Int32} {ar : Nat → Nat → Int32} {lw : Nat → Int64} {x : Int32} : (wm gI o ad fd ar lw).set 0 (o, .inr (2, (fsM ad fd).set 49 (.int x))) = wm gI o ad (upd fd 49 x) ar lw := rfl
theorem wmA_50 {gI : Nat → ClassId} {o : Nat} {ad : Nat → Nat} {fd : Nat → Int32} {ar : Nat → Nat → Int32} {lw : Nat → Int64} {f : Nat → Int32} : (wm gI o ad fd ar lw).set 30 (ad 50, .inl (gI 2, 3, .inl f)) = wm gI o ad fd (va_up ar 50 f) lw := rfl
theorem wmA_51 {gI : Nat → ClassId} {o : Nat} {ad : Nat → Nat} {fd : Nat → Int32} {ar : Nat → Nat → Int32} {lw : Nat → Int64} {f : Nat → Int32} : (wm gI o ad fd ar lw).set 31 (ad 51, .inl (gI 0, 3, .inl f)) = wm gI o ad fd (va_up ar 51 f) lw := rfl
theorem wmA_52 {gI : Nat → ClassId} {o : Nat} {ad : Nat → Nat} {fd : Nat → Int32} {ar : Nat → Nat → Int32} {lw : Nat → Int64} {f : Nat → Int32} : (wm gI o ad fd ar lw).set 32 (ad 52, .inl (gI 0, 129, .inl f)) = wm gI o ad fd (va_up ar 52 f) lw := rfl
theorem wmL {gI : Nat → ClassId} {o : Nat} {ad : Nat → Nat} {fd : Nat → Int32} {ar : Nat → Nat → Int32} {lw : Nat → Int64} {f : Nat → Int64} : (wm gI o ad fd ar lw).set 1 (ad 2, .inl (gI 1, 24, .inr (.inl f))) = wm gI o ad fd ar f := rfl
theorem wmrF {gI : Nat → ClassId} {o : Nat} {ad : Nat → Nat} {ar : Nat → Nat → Int32} {lw : Nat → Int64} {f1 f2 : Nat → Int32} (h : f1 = f2) : wm gI o ad f1 ar lw = wm gI o ad f2 ar lw := by rw [h]
theorem wmrA {gI : Nat → ClassId} {o : Nat} {ad : Nat → Nat} {fd : Nat → Int32} {lw : Nat → Int64} {f1 f2 : Nat → Nat → Int32} (h : f1 = f2) : wm gI o ad fd f1 lw = wm gI o ad fd f2 lw := by rw [h]
/-- a beach: its object and four arrays -/
def fsB (ab : Nat → Nat) (mo sp ti : Int32) : List Value := [.ref (ab 0), .ref (ab 1), .ref (ab 2), .ref (ab 3), .int mo, .int sp, .int ti]
def wB (gI : Nat → ClassId) (o : Nat) (ab : Nat → Nat) (wl dp aa md : Nat → Int32) (mo sp ti : Int32) : va_W := [(o, .inr (1, fsB ab mo sp ti)), (ab 0, .inl (gI 0, 12, .inl wl)), (ab 1, .inl (gI 0, 12, .inl dp)), (ab 2, .inl (gI 0, 8, .inl aa)), (ab 3, .inl (gI 0, 8, .inl md))]
def wBD (gI : Nat → ClassId) (o : Nat) (ab : Nat → Nat) (pd : Nat) (wl dp aa md : Nat → Int32) (mo sp ti : Int32) (dk : Nat → Int32) : va_W := wB gI o ab wl dp aa md mo sp ti ++ [(pd, .inl (gI 0, 12, .inl dk))]
def wBB (gI : Nat → ClassId) (o : Nat) (ab : Nat → Nat) (o2 : Nat) (ab2 : Nat → Nat) (wl dp aa md : Nat → Int32) (mo sp ti : Int32) (wl2 dp2 aa2 md2 : Nat → Int32) (mo2 sp2 ti2 : Int32) : va_W := wB gI o ab wl dp aa md mo sp ti ++ wB gI o2 ab2 wl2 dp2 aa2 md2 mo2 sp2 ti2
