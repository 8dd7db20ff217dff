/-! rings, purely; bounds of a wood; years by the calendar; woods that go on alike -/
section
variable {Γ : gC} {v : gM} {K : gH} {t : Nat} {Q : gQ}
/-- a relation of years that is an equivalence and goes on -/
abbrev gEqv (R : Nat → Nat → Prop) : Prop := (∀ i, R i i) ∧ (∀ i j, R i j → R j i) ∧ (∀ i j k, R i j → R j k → R i k) ∧ (∀ i j, R i j → R (i + 1) (j + 1))
/-- the first that comes again does so behind m + l years, and was met behind m -/
abbrev gRg (R : Nat → Nat → Prop) (m l : Nat) : Prop := 1 ≤ l ∧ R m (m + l) ∧ ∀ i j, i < j → j < m + l → ¬ R i j
theorem gEqv_add {R : Nat → Nat → Prop} (h : gEqv R) {i j : Nat} (hR : R i j) : ∀ k, R (i + k) (j + k)
  | 0 => hR
  | k + 1 => h.2.2.2 _ _ (gEqv_add h hR k)
theorem gEqv_mul {R : Nat → Nat → Prop} (h : gEqv R) {i d : Nat} (hR : R i (i + d)) : ∀ n, R i (i + n * d)
  | 0 => by rw [Nat.zero_mul]; exact h.1 i
  | n + 1 => by
    have h1 := gEqv_add h hR (n * d)
    have h2 := h.2.2.1 _ _ _ (gEqv_mul h hR n) h1
    rw [show i + (n + 1) * d = i + d + n * d by rw [Nat.succ_mul]; omega]
    exact h2
theorem gRg_uniq {R : Nat → Nat → Prop} (h : gEqv R) {m l m' l' : Nat} (g : gRg R m l) (g' : gRg R m' l') : m = m' ∧ l = l' := by
  have e : m + l = m' + l' := by
    rcases Nat.lt_trichotomy (m + l) (m' + l') with c | c | c
    · exact absurd g.2.1 (g'.2.2 _ _ (by omega) c)
    · exact c
    · exact absurd g'.2.1 (g.2.2 _ _ (by omega) c)
  have hr : R m m' := h.2.2.1 _ _ _ g.2.1 (h.2.1 _ _ (by rw [e]; exact g'.2.1))
  rcases Nat.lt_trichotomy m m' with c | c | c
  · exact absurd hr (g.2.2 _ _ c (by omega))
  · omega
  · exact absurd (h.2.1 _ _ hr) (g.2.2 _ _ c (by omega))
theorem gRg_fl {R : Nat → Nat → Prop} (h : gEqv R) {m l : Nat} (g : gRg R m l) : ∃ i, 1 ≤ i ∧ i ≤ m + l ∧ R i (2 * i) := by
  have e := Nat.div_add_mod m l
  have hm := Nat.mod_lt m (show l > 0 by omega)
  have e2 : (m / l + 1) * l = l * (m / l) + l := by rw [Nat.succ_mul, Nat.mul_comm]
  refine ⟨(m / l + 1) * l, by omega, by omega, ?_⟩
  have h1 := gEqv_add h (gEqv_mul h g.2.1 (m / l + 1)) ((m / l + 1) * l - m)
  rw [show m + ((m / l + 1) * l - m) = (m / l + 1) * l by omega, show m + (m / l + 1) * l + ((m / l + 1) * l - m) = 2 * ((m / l + 1) * l) by omega] at h1
  exact h1
theorem gRg_of {R : Nat → Nat → Prop} (h : gEqv R) {D s r : Nat} (hD : 1 ≤ D) (hs : R s (D + s)) (hs' : ∀ k, k < s → ¬ R k (D + k)) (hr : 1 ≤ r) (h3 : R (s + r) s) (h3' : ∀ k, 1 ≤ k → k < r → ¬ R (s + k) s) : gRg R s r := by
  refine ⟨hr, h.2.1 _ _ h3, fun a b hab hb hR => ?_⟩
  have e : b = a + (b - a) := by omega
  have hd : 1 ≤ b - a := by omega
  generalize b - a = d at e hd
  subst e
  have p1 : R s (s + a * D) := gEqv_mul h (by rw [Nat.add_comm]; exact hs) a
  have q1 : a ≤ a * D := Nat.le_mul_of_pos_right a hD
  have p2 := gEqv_add h hR (s + a * D - a)
  rw [show a + (s + a * D - a) = s + a * D by omega, show a + d + (s + a * D - a) = s + a * D + d by omega] at p2
  have p3 : R s (s + d) := h.2.2.1 _ _ _ p1 (h.2.2.1 _ _ _ p2 (h.2.1 _ _ (gEqv_add h p1 d)))
  have hrd : r ≤ d := by
    rcases Nat.lt_or_ge d r with c | c
    · exact absurd (h.2.1 _ _ p3) (h3' d hd c)
    · exact c
  have q2 : s ≤ s * d := Nat.le_mul_of_pos_right s hd
  have r1 : R a (a + s * d) := gEqv_mul h hR s
  have r2 := gEqv_add h hs (a + s * d - s)
  rw [show s + (a + s * d - s) = a + s * d by omega, show D + s + (a + s * d - s) = a + s * d + D by omega] at r2
  have r3 : R a (a + D) := h.2.2.1 _ _ _ r1 (h.2.2.1 _ _ _ r2 (h.2.1 _ _ (gEqv_add h r1 D)))
  rw [Nat.add_comm] at r3
  exact hs' a (by omega) r3
/-- the first phase's end: a mark for the second -/
theorem gRg_s {R : Nat → Nat → Prop} (h : gEqv R) {i : Nat} (h2 : R i (2 * i)) : R i (2 * i + i) := by
  have := gEqv_mul h (show R i (i + i) by rw [← Nat.two_mul]; exact h2) 2
  rw [Nat.add_comm]
  exact this
theorem gRg_r {R : Nat → Nat → Prop} (h : gEqv R) {D s : Nat} (hs : R s (D + s)) : R (s + D) s := by
  rw [Nat.add_comm]
  exact h.2.1 _ _ hs

/-- every sort of a memory is as a text lays it -/
def oSrt (u : gM) : Prop := ∀ s, 0 ≤ s → s < u 38 20 → (1 ≤ u 50 (7 * s) ∧ u 50 (7 * s) ≤ 5) ∧ (∀ w, 0 ≤ w → w ≤ 2 → 0 ≤ u 50 (7 * s + 1 + w) ∧ u 50 (7 * s + 1 + w) ≤ 9) ∧ (0 ≤ u 50 (7 * s + 5) ∧ u 50 (7 * s + 5) ≤ 60) ∧ (0 ≤ u 50 (7 * s + 6) ∧ u 50 (7 * s + 6) ≤ 99) ∧ (u 50 (7 * s) = 5 → 2 ≤ u 50 (7 * s + 6) ∧ u 50 (7 * s + 6) ≤ 9) ∧ (u 50 (7 * s) ≠ 1 → u 50 (7 * s) ≠ 3 → u 50 (7 * s + 5) ≤ u 50 (7 * s + 4) + 1) ∧ 0 ≤ u 50 (7 * s + 4) ∧ u 50 (7 * s + 4) ≤ 60
/-- a wood in its bounds -/
def yOK (u : gM) : Prop := (0 ≤ u 38 20 ∧ u 38 20 ≤ 6) ∧ oSrt u ∧ (0 ≤ u 38 33 ∧ u 38 33 ≤ 24) ∧ (∀ i, 0 ≤ i → i < u 38 33 → (0 ≤ u 57 i ∧ u 57 i < u 38 20) ∧ 0 ≤ u 58 i ∧ u 58 i ≤ 60) ∧ oEat u ∧ (0 ≤ u 38 26 ∧ u 38 26 ≤ 99) ∧ (0 ≤ u 38 27 ∧ u 38 27 ≤ 12) ∧ (1 ≤ u 38 28 ∧ u 38 28 ≤ 8) ∧ (∀ k, 0 ≤ k → k < u 38 28 → 0 ≤ u 54 k ∧ u 54 k ≤ 2) ∧ 0 ≤ u 38 31
theorem yOK_tr {u : gM} (h : yOK u) : oTr u := by
  obtain ⟨h1, h2, h3, h4, -⟩ := h
  refine ⟨h3, fun i i0 i1 => ?_⟩
  have g := h4 i i0 i1
  obtain ⟨a1, a2, a3, a4, a5, a6, a7, a8⟩ := h2 (u 57 i) g.1.1 g.1.2
  exact ⟨⟨g.1.1, by omega⟩, g.2, a1, a2, a3, a4, fun e => (a5 e).1, a6, a7⟩
theorem yOK_so {u : gM} (h : yOK u) : oSo u := fun i i0 i1 => (h.2.2.2.1 i i0 i1).1
theorem yOK_congr {u w : gM} (hc : ∀ a k, yR u a k → w a k = u a k) (h : yOK u) : yOK w := by
  obtain ⟨h1, h2, h3, h4, h5, h6, h7, h8, h9, h10⟩ := h
  have c (k : Int) (hk : k = 20 ∨ k = 22 ∨ k = 26 ∨ k = 27 ∨ k = 28 ∨ k = 31 ∨ k = 33) : w 38 k = u 38 k := hc 38 k (Or.inl ⟨rfl, hk⟩)
  have c20 := c 20 (by omega)
  have c22 := c 22 (by omega)
  have c26 := c 26 (by omega)
  have c27 := c 27 (by omega)
  have c28 := c 28 (by omega)
  have c31 := c 31 (by omega)
  have c33 := c 33 (by omega)
  unfold yOK oSrt oEat
  rw [c20, c22, c26, c27, c28, c31, c33]
  refine ⟨h1, fun s s0 s1 => ?_, h3, fun i i0 i1 => ?_, ⟨h5.1, fun e e0 e1 => ?_⟩, h6, h7, h8, fun k k0 k1 => ?_, h10⟩
  · have q (j : Int) (h0 : 0 ≤ j) (h1 : j ≤ 6) : w 50 (7 * s + j) = u 50 (7 * s + j) := hc _ _ (by unfold yR; omega)
    have q0 := q 0 (by omega) (by omega)
    rw [Int.add_zero] at q0
    have g := h2 s s0 s1
    rw [q0, q 4 (by omega) (by omega), q 5 (by omega) (by omega), q 6 (by omega) (by omega)]
    refine ⟨g.1, fun x x0 x1 => ?_, g.2.2⟩
    rw [show 7 * s + 1 + x = 7 * s + (1 + x) by omega, q (1 + x) (by omega) (by omega), show 7 * s + (1 + x) = 7 * s + 1 + x by omega]
    exact g.2.1 x x0 x1
  · rw [hc 57 i (by unfold yR; omega), hc 58 i (by unfold yR; omega)]
    exact h4 i i0 i1
  · rw [hc 51 e (by unfold yR; omega), hc 52 e (by unfold yR; omega), hc 53 e (by unfold yR; omega), hc 56 e (by unfold yR; omega)]
    exact h5.2 e e0 e1
  · rw [hc 54 k (by unfold yR; omega)]
    exact h9 k k0 k1
theorem yOK_N {u : gM} (h : yOK u) : yOK (mN u) := yOK_congr (fun a k hk => mN_at hk) h
theorem yR_N {u : gM} {a k : Int} : yR (mN u) a k ↔ yR u a k := by
  unfold yR
  rw [mN_c (k := 20) (by omega), mN_c (k := 22) (by omega), mN_c (k := 28) (by omega), mN_c (k := 33) (by omega)]
theorem yOK_of {u : gM} (h : yOK (mN u)) : yOK u := yOK_congr (fun a k hk => (mN_at (yR_N.1 hk)).symm) h
theorem mN_N {u : gM} : mN (mN u) = mN u := by
  funext a k
  by_cases h : yR u a k
  · rw [mN_at (yR_N.2 h)]
  · rw [mN_no (fun z => h (yR_N.1 z)), mN_no h]
theorem mN_congr {u w : gM} (h : ∀ a k, yR u a k → w a k = u a k) : mN w = mN u := by
  have c (k : Int) (hk : k = 20 ∨ k = 22 ∨ k = 26 ∨ k = 27 ∨ k = 28 ∨ k = 31 ∨ k = 33) : w 38 k = u 38 k := h 38 k (Or.inl ⟨rfl, hk⟩)
  have c20 := c 20 (by omega)
  have c22 := c 22 (by omega)
  have c28 := c 28 (by omega)
  have c33 := c 33 (by omega)
  have e (a k) : yR w a k ↔ yR u a k := by unfold yR; rw [c20, c22, c28, c33]
  funext a k
  by_cases g : yR u a k
  · rw [mN_at ((e a k).2 g), mN_at g, h a k g]
  · rw [mN_no (fun z => g ((e a k).1 z)), mN_no g]
theorem ySt_le {u : gM} {w h i : Int} (hw : 0 ≤ w ∧ w ≤ 2) (hT : oTr u) (h0 : 0 ≤ i) (h1 : i < u 38 33) : 0 ≤ ySt u w h i ∧ ySt u w h i ≤ 60 := by
  have hg := mG_le hw hT h0 h1
  obtain ⟨g57, g58, g50, g51, g55, g56, g5, g6, g4⟩ := hT.2 i h0 h1
  have ht : (u 50 (7 * u 57 i + 5)).tdiv 2 = u 50 (7 * u 57 i + 5) / 2 := Int.tdiv_eq_ediv_of_nonneg g55.1
  have e1 : mG (gUp u 38 31 (u 38 31 + 1)) w i = mG u w i := rfl
  unfold ySt
  by_cases hb : yB u w i = true
  · have hb' := hb
    unfold yB mBq at hb'
    rw [e1] at hb'
    simp (disch := omega) only [gUp_ne2, yBl_iff] at hb'
    rw [if_pos hb]
    by_cases hk : u 50 (7 * u 57 i) = 1
    · rw [if_pos hk]; exact hg
    · rw [if_neg hk, ht]
      split <;> omega
  · rw [if_neg hb]; exact hg
theorem yGv_le {u : gM} {w h i : Int} (hw : 0 ≤ w ∧ w ≤ 2) (hT : oTr u) (h0 : 0 ≤ i) (h1 : i < u 38 33) : 0 ≤ yGv u w h i ∧ yGv u w h i ≤ 60 := by
  obtain ⟨g57, g58, g50, g51, g55, g56, g5, -⟩ := hT.2 i h0 h1
  have g51 := g51 w hw.1 hw.2
  unfold yGv
  repeat' split
  all_goals omega
theorem yAc_le {u : gM} {w h : Int} (hw : 0 ≤ w ∧ w ≤ 2) (hT : oTr u) : 0 ≤ yAc u w h ∧ yAc u w h ≤ 1440 := by
  have := ySum_le (f := yGv u w h) (B := 60) (u 38 33).toNat (fun k k0 k1 => yGv_le hw hT k0 (by omega))
  have := hT.1
  unfold yAc
  omega
theorem yTh_le {u : gM} {w h pg : Int} (hw : 0 ≤ w ∧ w ≤ 2) (hT : oTr u) : 0 ≤ yTh u w h pg ∧ yTh u w h pg ≤ 1440 := by
  have := yAc_le (h := h) hw hT
  unfold yTh
  split <;> omega
theorem yL_le {u : gM} {w h pg e : Int} (hw : 0 ≤ w ∧ w ≤ 2) (hT : oTr u) (hE : oEat u) (hh : 0 ≤ u 38 26) (h1 : e ≤ u 38 22) : 0 ≤ yL u w h pg e ∧ yL u w h pg e ≤ yTh u w h pg - min (u 38 26) (yTh u w h pg) := by
  have ht := yTh_le (h := h) (pg := pg) hw hT
  exact yLeft_le (ea := u 51) (mo := u 56) (l := yTh u w h pg - min (u 38 26) (yTh u w h pg)) (by omega) e.toNat (fun k k0 k1 => Int.mul_nonneg (by have := (hE.2 k k0 (by omega)).1; omega) (by have := (hE.2 k k0 (by omega)).2.1; omega))
theorem ySd_le {u : gM} {w h pg : Int} (hw : 0 ≤ w ∧ w ≤ 2) (hT : oTr u) (hE : oEat u) (hh : 0 ≤ u 38 26 ∧ u 38 26 ≤ 99) (hf : 0 ≤ u 38 27 ∧ u 38 27 ≤ 12) : 0 ≤ ySd u w h pg ∧ ySd u w h pg ≤ 1440 := by
  have ht := yTh_le (h := h) (pg := pg) hw hT
  have hl := yL_le (h := h) (pg := pg) (e := u 38 22) hw hT hE hh.1 (by omega)
  unfold ySd
  have h1 : 0 ≤ min (u 38 26) (yTh u w h pg) * u 38 27 := Int.mul_nonneg (by omega) hf.1
  have h2 : min (u 38 26) (yTh u w h pg) * u 38 27 ≤ min (u 38 26) (yTh u w h pg) * 12 := Int.mul_le_mul_of_nonneg_left hf.2 (by omega)
  rw [Int.tdiv_eq_ediv_of_nonneg h1]
  omega
theorem yMo_le {ea mo gr co l : Int} (h1 : 0 ≤ ea) (h2 : 0 ≤ mo) (h3 : 0 ≤ gr) (h4 : 0 ≤ co) (h5 : 0 ≤ l) : 0 ≤ yMo ea mo gr co l ∧ yMo ea mo gr co l ≤ 200 := by
  have p1 : 0 ≤ mo * gr := Int.mul_nonneg h2 h3
  have p2 : 0 ≤ ea * mo := Int.mul_nonneg h1 h2
  have p3 : 0 ≤ (min l (ea * mo)).tdiv ea := Int.tdiv_nonneg (by omega) h1
  have p4 : 0 ≤ (mo * gr).tdiv 10 := Int.tdiv_nonneg p1 (by omega)
  unfold yMo
  split <;> omega
theorem yNx_c {u : gM} {w h pg k : Int} (hk : k ≠ 31) : yNx u w h pg 38 k = u 38 k := by
  unfold yNx
  rw [if_neg (by omega), if_neg (by omega), if_neg (by omega)]
theorem yNx_y {u : gM} {w h pg : Int} : yNx u w h pg 38 31 = u 38 31 + 1 := by
  unfold yNx
  rw [if_pos ⟨rfl, rfl⟩]
theorem yNx_o {u : gM} {w h pg a k : Int} (ha : ¬ (a = 38 ∨ a = 56 ∨ a = 58)) : yNx u w h pg a k = u a k := by
  unfold yNx
  rw [if_neg (by omega), if_neg (by omega), if_neg (by omega)]
theorem yNx_s {u : gM} {w h pg k : Int} (h0 : 0 ≤ k) (h1 : k < u 38 33) : yNx u w h pg 58 k = ySt u w h k := by
  unfold yNx
  rw [if_neg (by omega), if_pos ⟨rfl, h0, h1⟩]
theorem yNx_m {u : gM} {w h pg k : Int} (h0 : 0 ≤ k) (h1 : k < u 38 22) : yNx u w h pg 56 k = yMo (u 51 k) (u 56 k) (u 52 k) (u 53 k) (yL u w h pg k) := by
  unfold yNx
  rw [if_neg (by omega), if_neg (by omega), if_pos ⟨rfl, h0, h1⟩]
theorem yOK_nx {u : gM} {w h pg : Int} (hw : 0 ≤ w ∧ w ≤ 2) (hu : yOK u) : yOK (yNx u w h pg) := by
  have hT := yOK_tr hu
  obtain ⟨h1, h2, h3, h4, h5, h6, h7, h8, h9, h10⟩ := hu
  unfold yOK oSrt oEat
  rw [yNx_c (k := 20) (by omega), yNx_c (k := 22) (by omega), yNx_c (k := 26) (by omega), yNx_c (k := 27) (by omega), yNx_c (k := 28) (by omega), yNx_c (k := 33) (by omega), yNx_y]
  refine ⟨h1, fun s s0 s1 => ?_, h3, fun i i0 i1 => ?_, ⟨h5.1, fun e e0 e1 => ?_⟩, h6, h7, h8, fun k k0 k1 => ?_, by omega⟩
  · have q (j) : yNx u w h pg 50 j = u 50 j := yNx_o (by omega)
    simp only [q]
    exact h2 s s0 s1
  · rw [yNx_o (a := 57) (by omega), yNx_s i0 i1]
    exact ⟨(h4 i i0 i1).1, ySt_le hw hT i0 i1⟩
  · rw [yNx_o (a := 51) (by omega), yNx_o (a := 52) (by omega), yNx_o (a := 53) (by omega), yNx_m e0 e1]
    have g := h5.2 e e0 e1
    exact ⟨g.1, yMo_le (by omega) (by omega) (by omega) (by omega) (yL_le hw hT h5 h6.1 (by omega)).1, g.2.2⟩
  · rw [yNx_o (a := 54) (by omega)]
    exact h9 k k0 k1
/-- a year by the calendar, and many -/
def yMay (u : gM) : Int := u 54 (u 38 31 % u 38 28)
def yOne (u : gM) : gM := yNx u (yMay u) 0 0
def yIt (u : gM) : Nat → gM
  | 0 => u
  | k + 1 => yOne (yIt u k)
theorem yMay_le {u : gM} (h : yOK u) : 0 ≤ yMay u ∧ yMay u ≤ 2 := by
  have hc := h.2.2.2.2.2.2.2.1
  exact h.2.2.2.2.2.2.2.2.1 _ (Int.emod_nonneg _ (by omega)) (Int.emod_lt_of_pos _ (by omega))
theorem yOK_one {u : gM} (h : yOK u) : yOK (yOne u) := yOK_nx (yMay_le h) h
theorem yOK_it {u : gM} (h : yOK u) : ∀ k, yOK (yIt u k)
  | 0 => h
  | k + 1 => yOK_one (yOK_it h k)
theorem yIt_y {u : gM} : ∀ k, yIt u k 38 31 = u 38 31 + k
  | 0 => by simp [yIt]
  | k + 1 => by
    show yOne (yIt u k) 38 31 = _
    unfold yOne
    rw [yNx_y, yIt_y k]
    omega
theorem yIt_o {u : gM} {a j : Int} (h : ¬ ((a = 38 ∧ j = 31) ∨ (a = 56 ∧ 0 ≤ j ∧ j < u 38 22) ∨ (a = 58 ∧ 0 ≤ j ∧ j < u 38 33))) : ∀ k, yIt u k a j = u a j ∧ yIt u k 38 22 = u 38 22 ∧ yIt u k 38 33 = u 38 33
  | 0 => ⟨rfl, rfl, rfl⟩
  | k + 1 => by
    have g := yIt_o h k
    refine ⟨?_, ?_, ?_⟩
    · show yOne (yIt u k) a j = _
      unfold yOne yNx
      rw [g.2.1, g.2.2, if_neg (by omega), if_neg (by omega), if_neg (by omega)]
      exact g.1
    · show yOne (yIt u k) 38 22 = _
      unfold yOne
      rw [yNx_c (by omega)]
      exact g.2.1
    · show yOne (yIt u k) 38 33 = _
      unfold yOne
      rw [yNx_c (by omega)]
      exact g.2.2
theorem yIt_add {u : gM} (m : Nat) : ∀ k, yIt (yIt u m) k = yIt u (m + k)
  | 0 => rfl
  | k + 1 => by
    show yOne (yIt (yIt u m) k) = yOne (yIt u (m + k))
    rw [yIt_add m k]
/-- two woods that go on alike -/
def yAl (u w : gM) : Prop := (∀ a k, ¬ (a = 38 ∧ k = 31) → u a k = w a k) ∧ u 38 31 % u 38 28 = w 38 31 % u 38 28 ∧ ∀ s, 0 ≤ s → s < u 38 20 → u 50 (7 * s) = 5 → u 38 31 % u 50 (7 * s + 6) = w 38 31 % u 50 (7 * s + 6)
theorem yAl_refl (u : gM) : yAl u u := ⟨fun _ _ _ => rfl, rfl, fun _ _ _ _ => rfl⟩
theorem yAl_symm {u w : gM} (h : yAl u w) : yAl w u := by
  obtain ⟨h1, h2, h3⟩ := h
  refine ⟨fun a k hk => (h1 a k hk).symm, ?_, fun s s0 s1 s2 => ?_⟩
  · rw [← h1 38 28 (by omega)]; exact h2.symm
  · rw [← h1 50 _ (by omega)]
    exact (h3 s s0 (by rw [h1 38 20 (by omega)]; exact s1) (by rw [h1 50 _ (by omega)]; exact s2)).symm
theorem yAl_trans {u w x : gM} (h : yAl u w) (g : yAl w x) : yAl u x := by
  obtain ⟨h1, h2, h3⟩ := h
  obtain ⟨g1, g2, g3⟩ := g
  refine ⟨fun a k hk => (h1 a k hk).trans (g1 a k hk), ?_, fun s s0 s1 s2 => ?_⟩
  · rw [h2, h1 38 28 (by omega)]; exact g2
  · rw [h3 s s0 s1 s2, h1 50 _ (by omega)]
    exact g3 s s0 (by rw [← h1 38 20 (by omega)]; exact s1) (by rw [← h1 50 _ (by omega)]; exact s2)
theorem emod_succ {a b n : Int} (h : a % n = b % n) : (a + 1) % n = (b + 1) % n := by
  rw [Int.add_emod, h, ← Int.add_emod]
theorem yB_al {u w : gM} (hu : yOK u) (hw : yOK w) (h : yAl u w) {x i : Int} (h0 : 0 ≤ i) (h1 : i < u 38 33) : yB u x i = yB w x i := by
  obtain ⟨g1, g2, g3⟩ := h
  have e57 : u 57 i = w 57 i := g1 _ _ (by omega)
  have e50 (k) : u 50 k = w 50 k := g1 _ _ (by omega)
  have e58 : u 58 i = w 58 i := g1 _ _ (by omega)
  have s := (hu.2.2.2.1 i h0 h1).1
  have y1 := hu.2.2.2.2.2.2.2.2.2
  have y2 := hw.2.2.2.2.2.2.2.2.2
  have em : mG (gUp u 38 31 (u 38 31 + 1)) x i = mG (gUp w 38 31 (w 38 31 + 1)) x i := by
    unfold mG
    simp (disch := omega) only [gUp_ne2]
    rw [e57, e58]
    simp only [e50]
  unfold yB mBq
  rw [em]
  simp (disch := omega) only [gUp_ne2, gUp_eq2]
  have e5 : u 50 (7 * u 57 i) = 5 → (u 38 31 + 1).tmod (u 50 (7 * u 57 i + 6)) = (w 38 31 + 1).tmod (u 50 (7 * u 57 i + 6)) := by
    intro z
    rw [Int.tmod_eq_emod_of_nonneg (by omega), Int.tmod_eq_emod_of_nonneg (by omega)]
    exact emod_succ (g3 _ s.1 s.2 z)
  rw [← e57]
  simp only [← e50]
  rw [Bool.eq_iff_iff, yBl_iff, yBl_iff]
  by_cases z : u 50 (7 * u 57 i) = 5
  · rw [e5 z]
  · constructor <;> (rintro (q | q | q | q) <;> omega)
theorem yNx_al {u w : gM} (hu : yOK u) (hw : yOK w) (h : yAl u w) {x hf pg : Int} : yAl (yNx u x hf pg) (yNx w x hf pg) ∧ yAc u x hf = yAc w x hf ∧ ySd u x hf pg = ySd w x hf pg ∧ (∀ i, 0 ≤ i → i < u 38 33 → yGv u x hf i = yGv w x hf i) ∧ (∀ e, 0 ≤ e → e ≤ u 38 22 → yL u x hf pg e = yL w x hf pg e) := by
  have g1 := h.1
  have e33 : u 38 33 = w 38 33 := g1 _ _ (by omega)
  have e22 : u 38 22 = w 38 22 := g1 _ _ (by omega)
  have e26 : u 38 26 = w 38 26 := g1 _ _ (by omega)
  have e27 : u 38 27 = w 38 27 := g1 _ _ (by omega)
  have hb := fun (i : Int) (h0 : 0 ≤ i) (h1 : i < u 38 33) => yB_al hu hw h (x := x) h0 h1
  have hdo : ∀ i, 0 ≤ i → i < u 38 33 → yDo u x hf i = yDo w x hf i := by
    intro i h0 h1
    have q (bm) : yCnt (yHf (yB u x) hf i bm) (u 38 33).toNat = yCnt (yHf (yB w x) hf i bm) (w 38 33).toNat := by
      rw [← e33]
      refine yCnt_congr _ (fun k k0 k1 => ?_)
      unfold yHf
      rw [hb k k0 (by omega)]
    unfold yDo
    rw [q 0, q 1, g1 57 i (by omega), g1 50 _ (by omega), g1 50 _ (by omega)]
  have hG : ∀ i, 0 ≤ i → i < u 38 33 → mG u x i = mG w x i := by
    intro i h0 h1
    unfold mG
    rw [g1 57 i (by omega), g1 58 i (by omega), g1 50 _ (by omega), g1 50 _ (by omega)]
  have hgv : ∀ i, 0 ≤ i → i < u 38 33 → yGv u x hf i = yGv w x hf i := by
    intro i h0 h1
    unfold yGv
    rw [hb i h0 h1, hdo i h0 h1, g1 57 i (by omega), g1 50 _ (by omega), g1 50 _ (by omega), g1 50 _ (by omega)]
  have hst : ∀ i, 0 ≤ i → i < u 38 33 → ySt u x hf i = ySt w x hf i := by
    intro i h0 h1
    unfold ySt
    rw [hb i h0 h1, hdo i h0 h1, hG i h0 h1, g1 57 i (by omega), g1 50 _ (by omega), g1 50 _ (by omega)]
  have hac : yAc u x hf = yAc w x hf := by
    unfold yAc
    rw [← e33]
    exact ySum_congr _ (fun k k0 k1 => hgv k k0 (by omega))
  have hth : yTh u x hf pg = yTh w x hf pg := by unfold yTh; rw [hac]
  have hL : ∀ e, 0 ≤ e → e ≤ u 38 22 → yL u x hf pg e = yL w x hf pg e := by
    intro e e0 e1
    unfold yL
    rw [hth, e26]
    exact yLeft_congr _ (fun k k0 k1 => ⟨g1 _ _ (by omega), g1 _ _ (by omega)⟩)
  have hsd : ySd u x hf pg = ySd w x hf pg := by
    unfold ySd
    rw [hth, e26, e27, hL _ hu.2.2.2.2.1.1.1 (Int.le_refl _), e22]
  refine ⟨⟨fun a k hk => ?_, ?_, fun s s0 s1 s2 => ?_⟩, hac, hsd, hgv, hL⟩
  · unfold yNx
    rw [if_neg hk, if_neg hk, ← e33, ← e22]
    by_cases c1 : a = 58 ∧ 0 ≤ k ∧ k < u 38 33
    · rw [if_pos c1, if_pos c1, hst k c1.2.1 c1.2.2]
    · rw [if_neg c1, if_neg c1]
      by_cases c2 : a = 56 ∧ 0 ≤ k ∧ k < u 38 22
      · rw [if_pos c2, if_pos c2, hL k c2.2.1 (by omega), g1 51 k (by omega), g1 52 k (by omega), g1 53 k (by omega), g1 56 k (by omega)]
      · rw [if_neg c2, if_neg c2, g1 a k hk]
  · rw [yNx_y, yNx_y, yNx_c (by omega)]
    exact emod_succ h.2.1
  · rw [yNx_y, yNx_y, yNx_o (by omega)]
    rw [yNx_c (by omega)] at s1
    rw [yNx_o (by omega)] at s2
    exact emod_succ (h.2.2 s s0 s1 s2)
theorem yMay_al {u w : gM} (h : yAl u w) : yMay u = yMay w := by
  unfold yMay
  rw [← h.1 38 28 (by omega), h.2.1, h.1 54 _ (by omega)]
theorem yOne_al {u w : gM} (hu : yOK u) (hw : yOK w) (h : yAl u w) : yAl (yOne u) (yOne w) := by
  unfold yOne
  rw [yMay_al h]
  exact (yNx_al hu hw h).1
/-- which years are alike -/
abbrev yRr (u : gM) (i j : Nat) : Prop := yAl (yIt u i) (yIt u j)
theorem yRr_eqv {u : gM} (hu : yOK u) : gEqv (yRr u) := ⟨fun _ => yAl_refl _, fun _ _ h => yAl_symm h, fun _ _ _ h g => yAl_trans h g, fun _ _ h => yOne_al (yOK_it hu _) (yOK_it hu _) h⟩

end
