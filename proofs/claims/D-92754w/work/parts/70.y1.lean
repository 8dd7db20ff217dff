/-! a year as a function of the normalised memory -/
section
variable {Γ : gC} {v : gM} {K : gH} {t : Nat} {Q : gQ}
/-- the places that make a wood and its years -/
abbrev yR (v : gM) (a k : Int) : Prop := (a = 38 ∧ (k = 20 ∨ k = 22 ∨ k = 26 ∨ k = 27 ∨ k = 28 ∨ k = 31 ∨ k = 33)) ∨ (a = 50 ∧ 0 ≤ k ∧ k < 7 * v 38 20) ∨ ((a = 51 ∨ a = 52 ∨ a = 53 ∨ a = 56) ∧ 0 ≤ k ∧ k < v 38 22) ∨ (a = 54 ∧ 0 ≤ k ∧ k < v 38 28) ∨ (a = 55 ∧ 0 ≤ k ∧ k ≤ 2) ∨ ((a = 57 ∨ a = 58) ∧ 0 ≤ k ∧ k < v 38 33)
def mN (v : gM) : gM := fun a k => if yR v a k then v a k else 0
theorem mN_at {v : gM} {a k : Int} (h : yR v a k) : mN v a k = v a k := if_pos h
theorem mN_no {v : gM} {a k : Int} (h : ¬ yR v a k) : mN v a k = 0 := if_neg h
def yB (u : gM) (w i : Int) : Bool := mBq (gUp u 38 31 (u 38 31 + 1)) w i
def yHf (b : Int → Bool) (h i bm o : Int) : Bool := (gHas h o == gHas h i) && (decide (bm = 0) || b o)
def yDo (u : gM) (w h i : Int) : Bool := decide (u 50 (7 * u 57 i) ≠ 4) || decide (u 50 (7 * u 57 i + 6) * yCnt (yHf (yB u w) h i 0) (u 38 33).toNat ≤ 100 * yCnt (yHf (yB u w) h i 1) (u 38 33).toNat)
def yGv (u : gM) (w h i : Int) : Int := if yB u w i = true then (if u 50 (7 * u 57 i) = 1 then u 50 (7 * u 57 i + 1 + w) else if yDo u w h i = true then u 50 (7 * u 57 i + 5) else 0) else 0
def ySt (u : gM) (w h i : Int) : Int := if yB u w i = true then (if u 50 (7 * u 57 i) = 1 then mG u w i else mG u w i - (if yDo u w h i = true then u 50 (7 * u 57 i + 5) else (u 50 (7 * u 57 i + 5)).tdiv 2)) else mG u w i
def yAc (u : gM) (w h : Int) : Int := ySum (yGv u w h) (u 38 33).toNat
def yTh (u : gM) (w h pg : Int) : Int := if pg = 0 then yAc u w h else 0
def yL (u : gM) (w h pg e : Int) : Int := yLeft (u 51) (u 56) (yTh u w h pg - min (u 38 26) (yTh u w h pg)) e.toNat
def ySd (u : gM) (w h pg : Int) : Int := yL u w h pg (u 38 22) + (min (u 38 26) (yTh u w h pg) * u 38 27).tdiv 12
def ySv (u : gM) (w h pg e : Int) : Bool := yStv (u 51 e) (u 56 e) (yL u w h pg e)
def yNx (u : gM) (w h pg : Int) : gM := fun a k => if a = 38 ∧ k = 31 then u 38 31 + 1 else if a = 58 ∧ 0 ≤ k ∧ k < u 38 33 then ySt u w h k else if a = 56 ∧ 0 ≤ k ∧ k < u 38 22 then yMo (u 51 k) (u 56 k) (u 52 k) (u 53 k) (yL u w h pg k) else u a k
theorem yCnt_congr {p q : Int → Bool} : ∀ n : Nat, (∀ i : Int, 0 ≤ i → i < (n : Int) → p i = q i) → yCnt p n = yCnt q n
  | 0, _ => rfl
  | n + 1, h => by
    unfold yCnt
    rw [yCnt_congr n (fun i h0 h1 => h i h0 (by omega)), h n (by omega) (by omega)]
theorem ySum_congr {p q : Int → Int} : ∀ n : Nat, (∀ i : Int, 0 ≤ i → i < (n : Int) → p i = q i) → ySum p n = ySum q n
  | 0, _ => rfl
  | n + 1, h => by
    unfold ySum
    rw [ySum_congr n (fun i h0 h1 => h i h0 (by omega)), h n (by omega) (by omega)]
theorem yLeft_congr {p q f g : Int → Int} {l : Int} : ∀ n : Nat, (∀ i : Int, 0 ≤ i → i < (n : Int) → p i = q i ∧ f i = g i) → yLeft p f l n = yLeft q g l n
  | 0, _ => rfl
  | n + 1, h => by
    unfold yLeft
    rw [yLeft_congr n (fun i h0 h1 => h i h0 (by omega)), (h n (by omega) (by omega)).1, (h n (by omega) (by omega)).2]
/-- what is asked of a wood in the model's memory -/
def oSo (v : gM) : Prop := ∀ i, 0 ≤ i → i < v 38 33 → 0 ≤ v 57 i ∧ v 57 i < v 38 20
theorem mN_c {v : gM} {k : Int} (h : k = 20 ∨ k = 22 ∨ k = 26 ∨ k = 27 ∨ k = 28 ∨ k = 31 ∨ k = 33) : mN v 38 k = v 38 k := mN_at (Or.inl ⟨rfl, h⟩)
theorem mN_so {v : gM} {i : Int} (h0 : 0 ≤ i) (h1 : i < v 38 33) : mN v 57 i = v 57 i := mN_at (by unfold yR; omega)
theorem mN_st {v : gM} {i : Int} (h0 : 0 ≤ i) (h1 : i < v 38 33) : mN v 58 i = v 58 i := mN_at (by unfold yR; omega)
theorem mN_S {v : gM} {s q : Int} (h0 : 0 ≤ s) (h1 : s < v 38 20) (hq : 0 ≤ q ∧ q ≤ 6) : mN v 50 (7 * s + q) = v 50 (7 * s + q) := mN_at (by unfold yR; omega)
theorem mN_S0 {v : gM} {s : Int} (h0 : 0 ≤ s) (h1 : s < v 38 20) : mN v 50 (7 * s) = v 50 (7 * s) := mN_at (by unfold yR; omega)
theorem mN_e {v : gM} {a i : Int} (ha : a = 51 ∨ a = 52 ∨ a = 53 ∨ a = 56) (h0 : 0 ≤ i) (h1 : i < v 38 22) : mN v a i = v a i := mN_at (by unfold yR; omega)
theorem yG_N {v : gM} {w i : Int} (hw : 0 ≤ w ∧ w ≤ 2) (hS : oSo v) (h0 : 0 ≤ i) (h1 : i < v 38 33) : mG (mN v) w i = mG v w i := by
  have hs := hS i h0 h1
  unfold mG
  rw [mN_so h0 h1, mN_st h0 h1, mN_S0 hs.1 hs.2, show 7 * v 57 i + 1 + w = 7 * v 57 i + (1 + w) by omega, mN_S hs.1 hs.2 (by omega)]
theorem yB_N {v : gM} {w i : Int} (hw : 0 ≤ w ∧ w ≤ 2) (hS : oSo v) (h0 : 0 ≤ i) (h1 : i < v 38 33) : yB (mN v) w i = mBq (yS0 v) w i := by
  have hs := hS i h0 h1
  have hg := yG_N hw hS h0 h1
  unfold yB mBq
  have e1 : mG (gUp (mN v) 38 31 (mN v 38 31 + 1)) w i = mG (mN v) w i := rfl
  have e2 : mG (yS0 v) w i = mG v w i := rfl
  rw [e1, e2, hg]
  simp (disch := omega) only [gUp_ne2, gUp_eq2]
  rw [mN_so h0 h1, mN_c (by omega), mN_S0 hs.1 hs.2, show 7 * v 57 i + 1 + w = 7 * v 57 i + (1 + w) by omega, mN_S hs.1 hs.2 (by omega), mN_S hs.1 hs.2 (by omega), mN_S hs.1 hs.2 (by omega), mN_S hs.1 hs.2 (by omega)]

end
