/-! bits: the first family is the kit's BITS.to-paste, pasted; the rest is ours -/
/-! ===== Int32 by its bits: bt x i ===== -/
def bt (x : Int32) (i : Nat) : Bool := x.toBitVec.getLsbD i
theorem b_ext {x y : Int32} (h : ∀ i, i < 32 → bt x i = bt y i) : x = y := Int32.toBitVec_inj.mp (BitVec.eq_of_getLsbD_eq (fun i hi => h i hi))
theorem b_or (x y : Int32) (i : Nat) : bt (x ||| y) i = (bt x i || bt y i) := by unfold bt; rw [Int32.toBitVec_or, BitVec.getLsbD_or]
theorem b_and (x y : Int32) (i : Nat) : bt (x &&& y) i = (bt x i && bt y i) := by unfold bt; rw [Int32.toBitVec_and, BitVec.getLsbD_and]
theorem b_xor (x y : Int32) (i : Nat) : bt (x ^^^ y) i = (bt x i ^^ bt y i) := by unfold bt; rw [Int32.toBitVec_xor, BitVec.getLsbD_xor]
theorem b_big {x : Int32} {i : Nat} (h : 32 ≤ i) : bt x i = false := BitVec.getLsbD_of_ge _ _ h
theorem b_255 (i : Nat) : bt 255 i = decide (i < 8) := by
  rcases Nat.lt_or_ge i 32 with h | h
  · exact (by decide +kernel : ∀ i, i < 32 → bt 255 i = decide (i < 8)) i h
  · rw [b_big h, decide_eq_false (by omega)]
theorem b_65535 (i : Nat) : bt 65535 i = decide (i < 16) := by
  rcases Nat.lt_or_ge i 32 with h | h
  · exact (by decide +kernel : ∀ i, i < 32 → bt 65535 i = decide (i < 16)) i h
  · rw [b_big h, decide_eq_false (by omega)]
theorem b_m1 : ∀ i, i < 32 → bt (-1) i = true := by decide +kernel
theorem b_0 (i : Nat) : bt 0 i = false := BitVec.getLsbD_zero
theorem s_l : ∀ n, n < 32 → ((nI n &&& 31).toBitVec.smod 32).toNat = n := by decide +kernel
theorem s_u : ∀ n, n < 32 → (((nI n).toUInt32 &&& Int32.toUInt32 31).toBitVec % 32).toNat = n := by decide +kernel
theorem b_shl (n : Nat) (hn : n < 32) (x : Int32) {i : Nat} (hi : i < 32) : bt (x <<< (nI n &&& 31)) i = (decide (n ≤ i) && bt x (i - n)) := by
  unfold bt
  rw [Int32.toBitVec_shiftLeft]
  show (x.toBitVec <<< ((nI n &&& 31).toBitVec.smod 32).toNat).getLsbD i = _
  rw [s_l n hn, BitVec.getLsbD_shiftLeft]
  rcases Nat.lt_or_ge i n with h | h
  · simp [h, Nat.not_le.mpr h]
  · simp [hi, h, Nat.not_lt.mpr h]
theorem b_ushr (n : Nat) (hn : n < 32) (x : Int32) (i : Nat) : bt ((x.toUInt32 >>> ((nI n).toUInt32 &&& Int32.toUInt32 31)).toInt32) i = bt x (n + i) := by
  show (x.toUInt32 >>> ((nI n).toUInt32 &&& Int32.toUInt32 31)).toBitVec.getLsbD i = x.toUInt32.toBitVec.getLsbD (n + i)
  rw [UInt32.toBitVec_shiftRight]
  show (x.toUInt32.toBitVec >>> (((nI n).toUInt32 &&& Int32.toUInt32 31).toBitVec % 32).toNat).getLsbD i = _
  rw [s_u n hn, BitVec.getLsbD_ushiftRight]
theorem b_sshr (n : Nat) (hn : n < 32) (x : Int32) {i : Nat} (hi : i < 32) : bt (x >>> (nI n &&& 31)) i = if n + i < 32 then bt x (n + i) else bt x 31 := by
  unfold bt
  rw [Int32.toBitVec_shiftRight]
  show (x.toBitVec.sshiftRight ((nI n &&& 31).toBitVec.smod 32).toNat).getLsbD i = _
  rw [s_l n hn, BitVec.getLsbD_sshiftRight, BitVec.msb_eq_getLsbD_last]
  simp [hi]
theorem b_1 (i : Nat) : bt 1 i = decide (i = 0) := by
  rcases Nat.lt_or_ge i 32 with h | h
  · exact (by decide +kernel : ∀ i, i < 32 → bt 1 i = decide (i = 0)) i h
  · rw [b_big h, decide_eq_false (by omega)]
theorem b_low (z : Int32) : z &&& 1 = if bt z 0 = true then 1 else 0 := by
  refine b_ext (fun i hi => ?_)
  rw [b_and, b_1]
  by_cases h0 : i = 0
  · subst h0
    cases hz : bt z 0 <;> simp [b_1, b_0]
  · cases hz : bt z 0 <;> simp [b_1, b_0, h0]
/-- whether a set has k -/
def gHas (x k : Int) : Bool := bt (Int32.ofInt x) k.toNat
theorem of32_nI {k : Int} (hk : 0 ≤ k) : Int32.ofInt k = nI k.toNat := by
  show _ = Int32.ofNat k.toNat
  rw [show k = ((k.toNat : Nat) : Int) by omega, Int32.ofInt_eq_ofNat]
  congr 1
theorem has_iff {x k : Int} (hk : 0 ≤ k ∧ k < 32) : wAnd (wShr x k) 1 = 1 ↔ gHas x k = true := by
  unfold wAnd gHas
  have e : Int32.ofInt (wShr x k) = Int32.ofInt x >>> (nI k.toNat &&& 31) := by
    rw [← of32_nI hk.1]
    exact of32_eq rfl
  have hb : bt (Int32.ofInt x >>> (nI k.toNat &&& 31)) 0 = bt (Int32.ofInt x) k.toNat := by
    rw [b_sshr k.toNat (by omega) _ (by omega : 0 < 32), if_pos (by omega), Nat.add_zero]
  rw [e, show Int32.ofInt 1 = 1 from by decide, b_low, hb]
  cases bt (Int32.ofInt x) k.toNat
  · simp
  · simp
theorem has_or {x s k : Int} (hk : 0 ≤ k ∧ k < 32) (hs : 0 ≤ s ∧ s < 32) : gHas (wOr x (wShl 1 s)) k = (gHas x k || decide (k = s)) := by
  unfold gHas
  have e : Int32.ofInt (wShl 1 s) = 1 <<< (nI s.toNat &&& 31) := by
    rw [← of32_nI hs.1]
    exact of32_eq rfl
  have e2 : Int32.ofInt (wOr x (wShl 1 s)) = Int32.ofInt x ||| Int32.ofInt (wShl 1 s) := of32_eq rfl
  rw [e2, e, b_or, b_shl s.toNat (by omega) _ (by omega), b_1]
  congr 1
  by_cases h : k = s
  · subst h; simp
  · simp [h]; omega
theorem has_0 (k : Int) : gHas 0 k = false := by
  unfold gHas
  rw [show Int32.ofInt 0 = 0 from by decide]
  exact b_0 _
theorem has_and {x y k : Int} : gHas (wAnd x y) k = (gHas x k && gHas y k) := by
  unfold gHas
  have e2 : Int32.ofInt (wAnd x y) = Int32.ofInt x &&& Int32.ofInt y := of32_eq rfl
  rw [e2, b_and]
theorem has_ext {x y : Int} (hx : r32 x) (hy : r32 y) (h : ∀ k, 0 ≤ k → k < 32 → gHas x k = gHas y k) : x = y := by
  have : Int32.ofInt x = Int32.ofInt y := b_ext (fun i hi => by
    have := h i (by omega) (by omega)
    unfold gHas at this
    simpa using this)
  exact (eq32i hx hy).mp this
