/-! AcornYears: rings: phases, states, hash -/
section
variable {Γ : gC} {v : gM} {K : gH} {t : Nat} {Q : gQ}
theorem gG_gcd : ∀ (n : Nat) (a b : Int), 0 ≤ a → 0 ≤ b → b.toNat < n → gG n a b = (Nat.gcd a.toNat b.toNat : Nat)
  | 0, a, b, _, _, h => by omega
  | n + 1, a, b, h0, h1, h => by
    show (if b = 0 then a else gG n b (a.tmod b)) = _
    by_cases hb : b = 0
    · rw [if_pos hb, hb]
      show a = ((Nat.gcd a.toNat 0 : Nat) : Int)
      rw [Nat.gcd_zero_right]
      omega
    · have hm : a.tmod b = a % b := Int.tmod_eq_emod_of_nonneg h0
      have m0 := Int.emod_nonneg a hb
      have m1 := Int.emod_lt_of_pos a (show 0 < b by omega)
      rw [if_neg hb, hm, gG_gcd n b (a % b) h1 m0 (by omega)]
      have e : (a % b).toNat = a.toNat % b.toNat := by
        obtain ⟨x, rfl⟩ : ∃ x : Nat, a = x := ⟨a.toNat, by omega⟩
        obtain ⟨y, rfl⟩ : ∃ y : Nat, b = y := ⟨b.toNat, by omega⟩
        rfl
      rw [e, Nat.gcd_comm b.toNat, ← Nat.gcd_rec, Nat.gcd_comm]
/-- the least number that both divide, as A finds it -/
def aLc (a b : Int) : Int := a.tdiv (gG (b.natAbs + 1) a b) * b
theorem aLc_eq {a b : Int} (ha : 0 < a) (hb : 0 < b) : aLc a b = (Nat.lcm a.toNat b.toNat : Nat) := by
  unfold aLc
  rw [gG_gcd _ a b (by omega) (by omega) (by omega)]
  obtain ⟨x, rfl⟩ : ∃ x : Nat, a = x := ⟨a.toNat, by omega⟩
  obtain ⟨y, rfl⟩ : ∃ y : Nat, b = y := ⟨b.toNat, by omega⟩
  rw [Int.tdiv_eq_ediv_of_nonneg (by omega)]
  show (x : Int) / ((Nat.gcd x y : Nat) : Int) * (y : Int) = ((Nat.lcm x y : Nat) : Int)
  have : Nat.lcm x y = x / Nat.gcd x y * y := by
    unfold Nat.lcm
    rw [Nat.div_mul_right_comm (Nat.gcd_dvd_left x y)]
  rw [this, Int.natCast_mul, Int.natCast_ediv]
theorem aLc_dvd {a b d : Int} (ha : 0 < a) (hb : 0 < b) : aLc a b ∣ d ↔ a ∣ d ∧ b ∣ d := by
  rw [aLc_eq ha hb]
  obtain ⟨x, rfl⟩ : ∃ x : Nat, a = x := ⟨a.toNat, by omega⟩
  obtain ⟨y, rfl⟩ : ∃ y : Nat, b = y := ⟨b.toNat, by omega⟩
  show ((Nat.lcm x y : Nat) : Int) ∣ d ↔ _
  rw [Int.ofNat_dvd_left, Int.ofNat_dvd_left, Int.ofNat_dvd_left]
  exact ⟨fun h => ⟨Nat.dvd_trans (Nat.dvd_lcm_left x y) h, Nat.dvd_trans (Nat.dvd_lcm_right x y) h⟩, fun h => Nat.lcm_dvd h.1 h.2⟩
theorem aLc_pos {a b : Int} (ha : 0 < a) (hb : 0 < b) : 0 < aLc a b := by
  rw [aLc_eq ha hb]
  have := Nat.lcm_pos (m := a.toNat) (n := b.toNat) (by omega) (by omega)
  omega
/-- after how many years the calendar and the odd ones of the first i sorts stand alike -/
def pPh (u : gM) : Nat → Int
  | 0 => u 38 28
  | i + 1 => if u 50 (7 * (i : Int)) = 5 then aLc (pPh u i) (u 50 (7 * (i : Int) + 6)) else pPh u i
theorem d2520 {x : Int} (h : 1 ≤ x ∧ x ≤ 9) : x ∣ 2520 := by
  rcases (by omega : x = 1 ∨ x = 2 ∨ x = 3 ∨ x = 4 ∨ x = 5 ∨ x = 6 ∨ x = 7 ∨ x = 8 ∨ x = 9) with z | z | z | z | z | z | z | z | z <;> subst z <;> decide
theorem pPh_ok {u : gM} (hu : yOK u) : ∀ i : Nat, (i : Int) ≤ u 38 20 → 0 < pPh u i ∧ pPh u i ∣ 2520 ∧ ∀ d, pPh u i ∣ d ↔ u 38 28 ∣ d ∧ ∀ s, 0 ≤ s → s < (i : Int) → u 50 (7 * s) = 5 → u 50 (7 * s + 6) ∣ d
  | 0, _ => by
    have hc := hu.2.2.2.2.2.2.2.1
    refine ⟨by show 0 < u 38 28; omega, d2520 (x := u 38 28) (by omega), fun d => ⟨fun h => ⟨h, fun s s0 s1 => by omega⟩, fun h => h.1⟩⟩
  | i + 1, hi => by
    obtain ⟨h1, h2, h3⟩ := pPh_ok hu i (by omega)
    have hs := hu.2.1 (i : Int) (by omega) (by omega)
    unfold pPh
    by_cases ho : u 50 (7 * (i : Int)) = 5
    · rw [if_pos ho]
      have he := hs.2.2.2.2.1 ho
      refine ⟨aLc_pos h1 (by omega), (aLc_dvd h1 (by omega)).mpr ⟨h2, d2520 (by omega)⟩, fun d => ?_⟩
      rw [aLc_dvd h1 (by omega), h3 d]
      refine ⟨fun h => ⟨h.1.1, fun s s0 s1 s5 => ?_⟩, fun h => ⟨⟨h.1, fun s s0 s1 s5 => h.2 s s0 (by omega) s5⟩, h.2 i (by omega) (by omega) ho⟩⟩
      by_cases g : s = i
      · rw [g]; exact h.2
      · exact h.1.2 s s0 (by omega) s5
    · rw [if_neg ho]
      refine ⟨h1, h2, fun d => ?_⟩
      rw [h3 d]
      refine ⟨fun h => ⟨h.1, fun s s0 s1 s5 => ?_⟩, fun h => ⟨h.1, fun s s0 s1 s5 => h.2 s s0 (by omega) s5⟩⟩
      by_cases g : s = i
      · rw [g] at s5; exact absurd s5 ho
      · exact h.2 s s0 (by omega) s5
theorem pPh_le {u : gM} (hu : yOK u) (i : Nat) (hi : (i : Int) ≤ u 38 20) : 1 ≤ pPh u i ∧ pPh u i ≤ 2520 := by
  obtain ⟨h1, h2, -⟩ := pPh_ok hu i hi
  have := Int.le_of_dvd (by decide) h2
  omega

theorem lp_X0_phases1 {nn o m i z5 : Int} {bc bs : Nat} : ∀ (j : Nat) (x y : Int) (z8 : gV), y.natAbs ≤ j → (∀ z8 : gV, Gx Γ mX0_phases 71 [(2, 0), (0, nn), (2, o), (0, m), (0, i), (2, z5), (0, gG (j + 1) x y), (0, 0), z8] [] v (gHd K) t bc bs Q) → Gx Γ mX0_phases 48 [(2, 0), (0, nn), (2, o), (0, m), (0, i), (2, z5), (0, x), (0, y), z8] [] v (gHd K) t bc bs Q := by
  intro j
  induction j with
  | zero =>
    intro x y z8 h0 k
    refine Gx_iload dX0_phases_48 rfl ?_
    refine Gx_if_eq (tgt := 71) dX0_phases_50 (by decide) (fun c50 => ?_) (fun c50 => ?_)
    · have y0 : y = 0 := by omega
      have e : gG (0 + 1) x y = x := by
        show (if y = 0 then x else _) = x
        rw [if_pos y0]
      rw [e] at k
      rw [y0]
      exact k z8
    · exfalso
      omega
  | succ j ih =>
    intro x y z8 h0 k
    refine Gx_iload dX0_phases_48 rfl ?_
    refine Gx_if_eq (tgt := 71) dX0_phases_50 (by decide) (fun c50 => ?_) (fun c50 => ?_)
    · have y0 : y = 0 := by omega
      have e : gG (j + 1 + 1) x y = x := by
        show (if y = 0 then x else _) = x
        rw [if_pos y0]
      rw [e] at k
      rw [y0]
      exact k z8
    · refine Gx_iload dX0_phases_53 rfl ?_
      refine Gx_iload dX0_phases_55 rfl ?_
      refine Gx_irem dX0_phases_57 (by first | omega | (simp (disch := omega) only [w32_id]; omega)) ?_
      refine Gx_istore_8 dX0_phases_58 (Nat.le_of_ble_eq_true rfl) (Nat.ne_of_beq_eq_false rfl) ?_
      refine Gx_iload dX0_phases_60 rfl ?_
      refine Gx_istore_6 dX0_phases_62 (Nat.le_of_ble_eq_true rfl) (Nat.ne_of_beq_eq_false rfl) ?_
      refine Gx_iload dX0_phases_64 rfl ?_
      refine Gx_istore_7 dX0_phases_66 (Nat.le_of_ble_eq_true rfl) (Nat.ne_of_beq_eq_false rfl) ?_
      refine Gx_goto (tgt := 48) dX0_phases_68 (by decide) ?_
      have h5 : (x.tmod y).natAbs < y.natAbs := by rw [Int.natAbs_tmod]; exact Nat.mod_lt _ (by omega)
      refine ih y (x.tmod y) _ (by omega) (fun z => ?_)
      have e : gG (j + 1 + 1) x y = gG (j + 1) y (x.tmod y) := by
        show (if y = 0 then x else _) = _
        rw [if_neg (by omega)]
      rw [← e]
      exact k z
set_option maxHeartbeats 2000000 in
theorem lp_X0_phases2 {x o m : Int} {bc bs : Nat} (hW : aWf v (gHd K)) (hu : yOK (aN v (gHd K) x)) (ho : v 0 7 = o) (hm : (gHd K o).2 = m) (k : Q (0, pPh (aN v (gHd K) x) m.toNat) v (gHd K) t) : ∀ (j : Nat) (i : Int) (z5 z6 z7 z8 : gV), 0 ≤ i → i + j = m → Gx Γ mX0_phases 17 [(2, 0), (0, pPh (aN v (gHd K) x) i.toNat), (2, o), (0, m), (0, i), z5, z6, z7, z8] [] v (gHd K) t bc bs Q := by
  intro j
  induction j with
  | zero =>
    intro i z5 z6 z7 z8 h0 h1
    subst ho
    have h20 : aN v (gHd K) x 38 20 = m := hm
    have hm6 : m ≤ 6 := by have := hW.1.2.2.2; omega
    refine Gx_iload dX0_phases_17 rfl ?_
    refine Gx_iload_n (i := 3) dX0_phases_19 rfl rfl ?_
    refine Gx_icmp_ge (tgt := 88) dX0_phases_20 (by decide) (fun c20 => ?_) (fun c20 => ?_)
    · refine Gx_iload_n (i := 1) dX0_phases_88 rfl rfl ?_
      refine Gx_ireturn dX0_phases_89 trivial ?_
      have e9 : i = m := by omega
      rw [e9]
      exact k
    · exfalso
      omega
  | succ j ih =>
    intro i z5 z6 z7 z8 h0 h1
    subst ho
    have h20 : aN v (gHd K) x 38 20 = m := hm
    have hm6 : m ≤ 6 := by have := hW.1.2.2.2; omega
    obtain ⟨oi, hk3, ai, hA⟩ := hW.2.1 i h0 (by omega)
    have hh7 : gHd K (v 0 7) = (17, m) := by rw [← hm]; exact pairEq hW.1.2.1
    have hho : gHd K (v (v 0 7) i) = ((gHd K (v (v 0 7) i)).1, (gHd K (v (v 0 7) i)).2) := rfl
    have hs := hu.2.1 i h0 (by omega)
    have hpl := pPh_le hu i.toNat (by omega)
    have e0 : aN v (gHd K) x 50 (7 * i) = aKd (gHd K (v (v 0 7) i)).1 := by
      exact aN_S0 h0 (by omega)
    have e6 : (gHd K (v (v 0 7) i)).1 = 7 → aN v (gHd K) x 50 (7 * i + 6) = v (v (v 0 7) i) 3 := fun z => by
      have := aN_S (v := v) (h := gHd K) (x := x) (s := i) (q := 6) h0 (by omega) (by omega)
      rw [this]
      unfold aS
      rw [if_neg (by omega), if_neg (by omega), if_neg (by omega), if_neg (by omega), z]
      rfl
    have es : pPh (aN v (gHd K) x) (i + 1).toNat = if aN v (gHd K) x 50 (7 * i) = 5 then aLc (pPh (aN v (gHd K) x) i.toNat) (aN v (gHd K) x 50 (7 * i + 6)) else pPh (aN v (gHd K) x) i.toNat := by
      rw [show (i + 1).toNat = i.toNat + 1 by omega]
      show (if aN v (gHd K) x 50 (7 * (i.toNat : Int)) = 5 then aLc _ (aN v (gHd K) x 50 (7 * (i.toNat : Int) + 6)) else _) = _
      rw [show (i.toNat : Int) = i by omega]
    refine Gx_iload dX0_phases_17 rfl ?_
    refine Gx_iload_n (i := 3) dX0_phases_19 rfl rfl ?_
    refine Gx_icmp_ge (tgt := 88) dX0_phases_20 (by decide) (fun c20 => ?_) (fun c20 => ?_)
    · refine Gx_iload_n (i := 1) dX0_phases_88 rfl rfl ?_
      refine Gx_ireturn dX0_phases_89 trivial ?_
      exfalso
      omega
    · refine Gx_aload_n (i := 2) dX0_phases_23 rfl rfl ?_
      refine Gx_iload dX0_phases_24 rfl ?_
      refine Gx_aaload17 dX0_phases_26 hh7 (by first | omega | (simp (disch := omega) only [w32_id]; omega)) ?_
      refine Gx_astore_5 dX0_phases_27 (Nat.le_of_ble_eq_true rfl) (Nat.ne_of_beq_eq_false rfl) ?_
      refine Gx_aload dX0_phases_29 rfl ?_
      refine Gx_iconst ⟨by decide, by decide⟩ dX0_phases_31 ?_
      refine gv_X0_416 dX0_phases_32 rfl hho hk3 ⟨(Nat.le_of_ble_eq_true rfl), (Nat.le_of_ble_eq_true rfl)⟩ rfl (fun his => ?_) (fun his => ?_)
      · have k7 : (gHd K (v (v 0 7) i)).1 = 7 := by
          unfold aIs aKd at his
          by_cases z : (gHd K (v (v 0 7) i)).1 = 7
          · exact z
          · exfalso
            rcases (by omega : (gHd K (v (v 0 7) i)).1 = 3 ∨ (gHd K (v (v 0 7) i)).1 = 4 ∨ (gHd K (v (v 0 7) i)).1 = 5 ∨ (gHd K (v (v 0 7) i)).1 = 6) with q | q | q | q <;> rw [q] at his <;> revert his <;> decide
        have o5 : aN v (gHd K) x 50 (7 * i) = 5 := by rw [e0, k7]; rfl
        have he := hs.2.2.2.2.1 o5
        have e6' := e6 k7
        rw [e6'] at he
        have hb : ∀ j, 0 ≤ j → j ≤ 2 → 0 ≤ v (v (v (v 0 7) i) 0) j ∧ v (v (v (v 0 7) i) 0) j ≤ 9 := fun j j0 j1 => by
          have := hs.2.1 j j0 j1
          rw [aN_Sw h0 (by omega) ⟨j0, j1⟩] at this
          exact this
        have hc : (7 : Nat) ≠ 3 → (0 ≤ v (v (v 0 7) i) 1 ∧ v (v (v 0 7) i) 1 ≤ 60) ∧ 0 ≤ v (v (v 0 7) i) 2 ∧ v (v (v 0 7) i) 2 ≤ 60 := fun _ => by
          have q4 := aN_S (v := v) (h := gHd K) (x := x) (s := i) (q := 4) h0 (by omega) (by omega)
          have q5 := aN_S (v := v) (h := gHd K) (x := x) (s := i) (q := 5) h0 (by omega) (by omega)
          have r4 : aS v (gHd K) (v (v 0 7) i) 4 = v (v (v 0 7) i) 1 := by
            unfold aS
            rw [if_neg (by omega), if_neg (by omega), if_pos rfl, k7]
            rfl
          have r5 : aS v (gHd K) (v (v 0 7) i) 5 = v (v (v 0 7) i) 2 := by
            unfold aS
            rw [if_neg (by omega), if_neg (by omega), if_neg (by omega), if_pos rfl, k7]
            rfl
          have s4 := hs.2.2.2.2.2.2
          have s5 := hs.2.2.1
          rw [q4, r4] at s4
          rw [q5, r5] at s5
          exact ⟨s4, s5⟩
        refine Gx_if_eq (tgt := 82) dX0_phases_35 (by decide) (fun hz => absurd hz (by decide)) (fun _ => ?_)
        refine Gx_iload_n (i := 1) dX0_phases_38 rfl rfl ?_
        refine Gx_istore_6 dX0_phases_39 (Nat.le_of_ble_eq_true rfl) (Nat.ne_of_beq_eq_false rfl) ?_
        refine Gx_aload dX0_phases_41 rfl ?_
        refine gv_X0_419 dX0_phases_43 rfl (k := 7) (n := (gHd K (v (v 0 7) i)).2) (by rw [← k7]) (by omega) hA hb hc ⟨(Nat.le_of_ble_eq_true rfl), (Nat.le_of_ble_eq_true rfl)⟩ rfl ?_
        rw [if_neg (by decide), if_neg (by decide)]
        refine Gx_istore_7 dX0_phases_46 (Nat.le_of_ble_eq_true rfl) (Nat.ne_of_beq_eq_false rfl) ?_
        refine lp_X0_phases1 (v (v (v 0 7) i) 3).natAbs _ _ _ (by omega) (fun z8 => ?_)
        have gp : 0 < gG ((v (v (v 0 7) i) 3).natAbs + 1) (pPh (aN v (gHd K) x) i.toNat) (v (v (v 0 7) i) 3) := by
          rw [gG_gcd _ _ _ (by omega) (by omega) (by omega)]
          have := Nat.gcd_pos_of_pos_right (pPh (aN v (gHd K) x) i.toNat).toNat (show 0 < (v (v (v 0 7) i) 3).toNat by omega)
          omega
        have ql : 0 ≤ (pPh (aN v (gHd K) x) i.toNat).tdiv (gG ((v (v (v 0 7) i) 3).natAbs + 1) (pPh (aN v (gHd K) x) i.toNat) (v (v (v 0 7) i) 3)) ∧ (pPh (aN v (gHd K) x) i.toNat).tdiv (gG ((v (v (v 0 7) i) 3).natAbs + 1) (pPh (aN v (gHd K) x) i.toNat) (v (v (v 0 7) i) 3)) ≤ pPh (aN v (gHd K) x) i.toNat := by
          rw [Int.tdiv_eq_ediv_of_nonneg (by omega)]
          exact ⟨Int.ediv_nonneg (by omega) (by omega), Int.ediv_le_self _ (by omega)⟩
        refine Gx_iload_n (i := 1) dX0_phases_71 rfl rfl ?_
        refine Gx_iload dX0_phases_72 rfl ?_
        refine Gx_idiv dX0_phases_74 (by first | omega | (simp (disch := omega) only [w32_id]; omega)) ?_
        rw [w32_id (by omega) (by omega)]
        refine Gx_aload dX0_phases_75 rfl ?_
        refine gv_X0_419 dX0_phases_77 rfl (k := 7) (n := (gHd K (v (v 0 7) i)).2) (by rw [← k7]) (by omega) hA hb hc ⟨(Nat.le_of_ble_eq_true rfl), (Nat.le_of_ble_eq_true rfl)⟩ rfl ?_
        rw [if_neg (by decide), if_neg (by decide)]
        refine Gx_imul dX0_phases_80 ?_
        rw [w32_id (by
          have := mul_le_of ql.1 ql.2 (show 0 ≤ v (v (v 0 7) i) 3 by omega) (show v (v (v 0 7) i) 3 ≤ 9 by omega)
          have h25 := hpl.2
          omega) (by
          have := mul_le_of ql.1 ql.2 (show 0 ≤ v (v (v 0 7) i) 3 by omega) (show v (v (v 0 7) i) 3 ≤ 9 by omega)
          omega)]
        refine Gx_istore_n_1 dX0_phases_81 (Nat.le_of_ble_eq_true rfl) (Nat.ne_of_beq_eq_false rfl) ?_
        refine Gx_iinc_4 dX0_phases_82 (Nat.le_of_ble_eq_true rfl) (Nat.ne_of_beq_eq_false rfl) ?_
        refine Gx_goto (tgt := 17) dX0_phases_85 (by decide) ?_
        first
        | (have n5 : ¬ aN v (gHd K) x 50 (7 * i) = 5 := by
             rw [e0]
             intro z
             exact his (Or.inr (Or.inl z.symm))
           have hi := ih (i + 1) (2, v (v 0 7) i) z6 z7 z8 (by omega) (by omega)
           rw [es, if_neg n5] at hi
           exact hi)
        | (have e9 : pPh (aN v (gHd K) x) (i + 1).toNat = (pPh (aN v (gHd K) x) i.toNat).tdiv (gG ((v (v (v 0 7) i) 3).natAbs + 1) (pPh (aN v (gHd K) x) i.toNat) (v (v (v 0 7) i) 3)) * v (v (v 0 7) i) 3 := by
             rw [es, if_pos o5, e6']
             rfl
           rw [← e9, w32_id (by omega) (by omega)]
           exact ih (i + 1) _ _ _ _ (by omega) (by omega))
      · refine Gx_if_eq (tgt := 82) dX0_phases_35 (by decide) (fun _ => ?_) (fun hz => absurd hz (by decide))
        refine Gx_iinc_4 dX0_phases_82 (Nat.le_of_ble_eq_true rfl) (Nat.ne_of_beq_eq_false rfl) ?_
        try simp (disch := omega) only [w32_id]
        refine Gx_goto (tgt := 17) dX0_phases_85 (by decide) ?_
        first
        | (have n5 : ¬ aN v (gHd K) x 50 (7 * i) = 5 := by
             rw [e0]
             intro z
             exact his (Or.inr (Or.inl z.symm))
           have hi := ih (i + 1) (2, v (v 0 7) i) z6 z7 z8 (by omega) (by omega)
           rw [es, if_neg n5] at hi
           exact hi)
        | (have e9 : pPh (aN v (gHd K) x) (i + 1).toNat = (pPh (aN v (gHd K) x) i.toNat).tdiv (gG ((v (v (v 0 7) i) 3).natAbs + 1) (pPh (aN v (gHd K) x) i.toNat) (v (v (v 0 7) i) 3)) * v (v (v 0 7) i) 3 := by
             rw [es, if_pos o5, e6']
             rfl
           rw [← e9, w32_id (by omega) (by omega)]
           exact ih (i + 1) _ _ _ _ (by omega) (by omega))
set_option maxHeartbeats 1000000 in
theorem ct_X0_phases {x : Int} (hW : aWf v (gHd K)) (hu : yOK (aN v (gHd K) x)) (k : Q (0, pPh (aN v (gHd K) x) ((aN v (gHd K) x) 38 20).toNat) v (gHd K) t) : Ctr Γ mX0_phases [(2, 0)] v (gHd K) t Q := by
  refine Ctr.ofG (ls := [(2, 0), (9, 0), (9, 0), (9, 0), (9, 0), (9, 0), (9, 0), (9, 0), (9, 0)]) rfl rfl rfl rfl rfl ?_
  refine Gx_aload_n (i := 0) dX0_phases_0 rfl rfl ?_
  refine gf_X0_126_20 dX0_phases_1 rfl rfl ?_
  refine Gx_alen dX0_phases_4 (pairEq hW.2.2.1.2) (by decide) (by decide) ?_
  refine Gx_istore_n_1 dX0_phases_5 (Nat.le_of_ble_eq_true rfl) (Nat.ne_of_beq_eq_false rfl) ?_
  refine Gx_aload_n (i := 0) dX0_phases_6 rfl rfl ?_
  refine gf_X0_40_20 dX0_phases_7 rfl rfl ?_
  refine Gx_astore_n_2 dX0_phases_10 (Nat.le_of_ble_eq_true rfl) (Nat.ne_of_beq_eq_false rfl) ?_
  refine Gx_aload_n (i := 2) dX0_phases_11 rfl rfl ?_
  refine Gx_alen dX0_phases_12 (pairEq hW.1.2.1) (by decide) (by decide) ?_
  refine Gx_istore_n_3 dX0_phases_13 (Nat.le_of_ble_eq_true rfl) (Nat.ne_of_beq_eq_false rfl) ?_
  refine Gx_iconst ⟨by decide, by decide⟩ dX0_phases_14 ?_
  refine Gx_istore_4 dX0_phases_15 (Nat.le_of_ble_eq_true rfl) (Nat.ne_of_beq_eq_false rfl) ?_
  exact lp_X0_phases2 hW hu rfl rfl k (gHd K (v 0 7)).2.toNat 0 _ _ _ _ (by omega) (by have := hW.1.2.2; omega)
end
