/-! THE ABSTRACT LAYER, 1: numbers. Every value is an Int; ints and longs wrap by w32, w64. -/
def w32 (x : Int) : Int := (x + 2147483648) % 4294967296 - 2147483648
def w64 (x : Int) : Int := (x + 9223372036854775808) % 18446744073709551616 - 9223372036854775808
def r32 (x : Int) : Prop := -2147483648 ≤ x ∧ x < 2147483648
def r64 (x : Int) : Prop := -9223372036854775808 ≤ x ∧ x < 9223372036854775808
theorem r32_w32 (x : Int) : r32 (w32 x) := by unfold r32 w32; omega
theorem r64_w64 (x : Int) : r64 (w64 x) := by unfold r64 w64; omega
theorem w32_of {x : Int} (h : r32 x) : w32 x = x := by unfold r32 at h; unfold w32; omega
theorem w64_of {x : Int} (h : r64 x) : w64 x = x := by unfold r64 at h; unfold w64; omega
theorem bmod_w32 (x : Int) : x.bmod (2 ^ 32) = w32 x := by
  unfold w32
  rw [Int.bmod_def]
  simp only [Nat.reducePow]
  split <;> omega
theorem bmod_w64 (x : Int) : x.bmod (2 ^ 64) = w64 x := by
  unfold w64
  rw [Int.bmod_def]
  simp only [Nat.reducePow]
  split <;> omega
theorem toInt_of32 (x : Int) : (Int32.ofInt x).toInt = w32 x := by rw [Int32.toInt_ofInt]; exact bmod_w32 x
theorem toInt_of64 (x : Int) : (Int64.ofInt x).toInt = w64 x := by rw [Int64.toInt_ofInt]; exact bmod_w64 x
theorem toInt32 {x : Int} (h : r32 x) : (Int32.ofInt x).toInt = x := by rw [toInt_of32, w32_of h]
theorem toInt64 {x : Int} (h : r64 x) : (Int64.ofInt x).toInt = x := by rw [toInt_of64, w64_of h]
theorem eq32 {a b : Int32} (h : a.toInt = b.toInt) : a = b := Int32.toInt_inj.mp h
theorem eq64 {a b : Int64} (h : a.toInt = b.toInt) : a = b := Int64.toInt_inj.mp h
theorem of32_w32 (x : Int) : Int32.ofInt (w32 x) = Int32.ofInt x := eq32 (by rw [toInt_of32, toInt_of32]; unfold w32; omega)
theorem of64_w64 (x : Int) : Int64.ofInt (w64 x) = Int64.ofInt x := eq64 (by rw [toInt_of64, toInt_of64]; unfold w64; omega)
theorem of32_eq {x : Int} {a : Int32} (h : a.toInt = x) : Int32.ofInt x = a := by rw [← h]; exact Int32.ofInt_toInt a
theorem of64_eq {x : Int} {a : Int64} (h : a.toInt = x) : Int64.ofInt x = a := by rw [← h]; exact Int64.ofInt_toInt a
theorem r32_toInt (a : Int32) : r32 a.toInt := by
  have h1 := Int32.le_toInt a
  have h2 := Int32.toInt_lt a
  unfold r32; omega
theorem r64_toInt (a : Int64) : r64 a.toInt := by
  have h1 := Int64.le_toInt a
  have h2 := Int64.toInt_lt a
  unfold r64; omega
theorem lt32 {x y : Int} (hx : r32 x) (hy : r32 y) : Int32.ofInt x < Int32.ofInt y ↔ x < y := by rw [Int32.lt_iff_toInt_lt, toInt32 hx, toInt32 hy]
theorem le32 {x y : Int} (hx : r32 x) (hy : r32 y) : Int32.ofInt x ≤ Int32.ofInt y ↔ x ≤ y := by rw [Int32.le_iff_toInt_le, toInt32 hx, toInt32 hy]
theorem eq32i {x y : Int} (hx : r32 x) (hy : r32 y) : Int32.ofInt x = Int32.ofInt y ↔ x = y := by rw [← Int32.toInt_inj, toInt32 hx, toInt32 hy]
theorem lt64 {x y : Int} (hx : r64 x) (hy : r64 y) : Int64.ofInt x < Int64.ofInt y ↔ x < y := by rw [Int64.lt_iff_toInt_lt, toInt64 hx, toInt64 hy]
theorem eq64i {x y : Int} (hx : r64 x) (hy : r64 y) : Int64.ofInt x = Int64.ofInt y ↔ x = y := by rw [← Int64.toInt_inj, toInt64 hx, toInt64 hy]
theorem of32_0 : Int32.ofInt 0 = 0 := by decide
theorem r32_0 : r32 0 := by unfold r32; omega
theorem tmod32 {x y : Int} (hx : r32 x) (hy : r32 y) (h0 : y ≠ 0) : r32 (x.tmod y) := by
  unfold r32 at *
  have h1 : (x.tmod y).natAbs ≤ x.natAbs := by rw [Int.natAbs_tmod]; exact Nat.mod_le _ _
  have h2 : (x.tmod y).natAbs < y.natAbs := by rw [Int.natAbs_tmod]; exact Nat.mod_lt _ (by omega)
  omega
theorem tmod64 {x y : Int} (hx : r64 x) (hy : r64 y) (h0 : y ≠ 0) : r64 (x.tmod y) := by
  unfold r64 at *
  have h1 : (x.tmod y).natAbs ≤ x.natAbs := by rw [Int.natAbs_tmod]; exact Nat.mod_le _ _
  have h2 : (x.tmod y).natAbs < y.natAbs := by rw [Int.natAbs_tmod]; exact Nat.mod_lt _ (by omega)
  omega
theorem of32_div {x y : Int} (hx : r32 x) (hy : r32 y) : Int32.ofInt x / Int32.ofInt y = Int32.ofInt (w32 (x.tdiv y)) := eq32 (by rw [Int32.toInt_div, toInt32 hx, toInt32 hy, bmod_w32, of32_w32, toInt_of32])
theorem of64_div {x y : Int} (hx : r64 x) (hy : r64 y) : Int64.ofInt x / Int64.ofInt y = Int64.ofInt (w64 (x.tdiv y)) := eq64 (by rw [Int64.toInt_div, toInt64 hx, toInt64 hy, bmod_w64, of64_w64, toInt_of64])
theorem of32_rem {x y : Int} (hx : r32 x) (hy : r32 y) (h0 : y ≠ 0) : Int32.ofInt x - Int32.ofInt x / Int32.ofInt y * Int32.ofInt y = Int32.ofInt (x.tmod y) := eq32 (by rw [rem_toInt, toInt32 hx, toInt32 hy, toInt32 (tmod32 hx hy h0)])
theorem of64_rem {x y : Int} (hx : r64 x) (hy : r64 y) (h0 : y ≠ 0) : Int64.ofInt x - Int64.ofInt x / Int64.ofInt y * Int64.ofInt y = Int64.ofInt (x.tmod y) := by
  refine eq64 ?_
  rw [toInt64 (tmod64 hx hy h0), Int64.toInt_sub, Int64.toInt_mul, Int64.toInt_div, toInt64 hx, toInt64 hy, bmod_w64, bmod_w64, bmod_w64]
  have e : x.tmod y = x - x.tdiv y * y := by
    have := Int.tmod_add_mul_tdiv x y
    rw [Int.mul_comm] at this
    omega
  have hr := tmod64 hx hy h0
  rw [e] at hr ⊢
  generalize x.tdiv y = q at *
  have h2 : ∃ k, w64 q = q + 18446744073709551616 * k := ⟨-((q + 9223372036854775808) / 18446744073709551616), by unfold w64; omega⟩
  obtain ⟨k, hk⟩ := h2
  rw [hk, Int.add_mul]
  have h3 : 18446744073709551616 * k * y = 18446744073709551616 * (k * y) := by rw [Int.mul_assoc]
  rw [h3]
  generalize k * y = z
  generalize q * y = u at *
  unfold w64
  unfold r64 at hr
  omega
/-- what a memory word is: bits of an int -/
def wAnd (x y : Int) : Int := (Int32.ofInt x &&& Int32.ofInt y).toInt
def wOr (x y : Int) : Int := (Int32.ofInt x ||| Int32.ofInt y).toInt
def wXor (x y : Int) : Int := (Int32.ofInt x ^^^ Int32.ofInt y).toInt
def wShl (x y : Int) : Int := (Int32.ofInt x <<< (Int32.ofInt y &&& 31)).toInt
def wShr (x y : Int) : Int := (Int32.ofInt x >>> (Int32.ofInt y &&& 31)).toInt
def wUshr (x y : Int) : Int := (((Int32.ofInt x).toUInt32 >>> ((Int32.ofInt y).toUInt32 &&& Int32.toUInt32 31)).toInt32).toInt
def w8 (x : Int) : Int := (x + 128) % 256 - 128
def w16 (x : Int) : Int := (x + 32768) % 65536 - 32768
theorem of32_i2b (x : Int) : (Int32.ofInt x).toInt8.toInt32 = Int32.ofInt (w8 x) := by
  refine eq32 ?_
  rw [Int8.toInt_toInt32, Int32.toInt_toInt8, toInt_of32, toInt_of32, Int.bmod_def]
  simp only [Nat.reducePow]
  unfold w32 w8
  split <;> omega
theorem of32_i2s (x : Int) : (Int32.ofInt x).toInt16.toInt32 = Int32.ofInt (w16 x) := by
  refine eq32 ?_
  rw [Int16.toInt_toInt32, Int32.toInt_toInt16, toInt_of32, toInt_of32, Int.bmod_def]
  simp only [Nat.reducePow]
  unfold w32 w16
  split <;> omega
theorem r32_w8 (x : Int) : r32 (w8 x) := by unfold r32 w8; omega
theorem r32_w16 (x : Int) : r32 (w16 x) := by unfold r32 w16; omega
theorem of32_i2l {x : Int} (hx : r32 x) : (Int32.ofInt x).toInt64 = Int64.ofInt x := by
  refine (of64_eq ?_).symm
  rw [Int32.toInt_toInt64, toInt32 hx]
theorem of64_l2i {x : Int} (hx : r64 x) : (Int64.ofInt x).toInt32 = Int32.ofInt (w32 x) := by
  refine (of32_eq ?_).symm
  rw [Int64.toInt_toInt32, toInt64 hx, bmod_w32]
theorem r64_r32 {x : Int} (h : r32 x) : r64 x := by unfold r32 at h; unfold r64; omega
def gCmp (x y : Int) : Int := if y < x then 1 else if x = y then 0 else -1
theorem of64_cmp {x y : Int} (hx : r64 x) (hy : r64 y) : lg_cmp (Int64.ofInt x) (Int64.ofInt y) = Int32.ofInt (gCmp x y) := by
  unfold lg_cmp gCmp
  simp only [gt_iff_lt, lt64 hy hx, eq64i hx hy]
  split
  · rfl
  · split <;> rfl
theorem r32_gCmp (x y : Int) : r32 (gCmp x y) := by unfold gCmp r32; split <;> (try split) <;> omega
