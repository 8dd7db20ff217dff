/-! AcornYears reads sorts, a calendar -/
section
variable {Γ : gC} {v : gM} {K : gH} {t : Nat} {Q : gQ}
theorem w8_id {x : Int} (h1 : -128 ≤ x) (h2 : x < 128) : w8 x = x := by unfold w8; omega
theorem aTx_new {v : gM} {K : gH} {b : pB} {n : Int} {f : Int → Int} {x : Nat × Int} (hK : gTop (gHd K) t) (hT : aTx v (gHd K) b n) : aTx (gNf v t f) (gHd (gUpH K t x)) b n := by
  obtain ⟨h1, h2, h3, h4⟩ := hT
  have hlt := (gHd_lh hK h1 (by decide)).2
  have e17 : gNf v t f 0 17 = v 0 17 := gNf_ne (by have := gHd_66 hK; omega)
  refine ⟨by rw [e17, gHd_ne (by omega)]; exact h1, by rw [e17]; exact h2, h3, fun i hi => ?_⟩
  rw [e17, gNf_ne (by omega)]
  exact h4 i hi
theorem pCnt_in {b : pB} : ∀ (f : Nat) (p l : Int), 0 ≤ l → l < pCnt b f p → 48 ≤ b (p + l) ∧ b (p + l) ≤ 50
  | 0, p, l, h0, h1 => by unfold pCnt at h1; omega
  | f + 1, p, l, h0, h1 => by
    unfold pCnt at h1
    split at h1
    · by_cases hl : l = 0
      · subst hl
        rw [Int.add_zero]
        assumption
      · have := pCnt_in (b := b) f (p + 1) (l - 1) (by omega) (by omega)
        rw [show p + 1 + (l - 1) = p + l by omega] at this
        exact this
    · omega
/-- the cell's kind of a sort that is read -/
def aCk (kd : Int) : Nat := if kd = 1 then 3 else if kd = 3 then 4 else if kd = 2 then 5 else if kd = 4 then 6 else 7
theorem aKd_ck {kd : Int} (h : 1 ≤ kd ∧ kd ≤ 5) : aKd (aCk kd) = kd := by
  rcases (by omega : kd = 1 ∨ kd = 2 ∨ kd = 3 ∨ kd = 4 ∨ kd = 5) with z | z | z | z | z <;> subst z <;> rfl
/-- a sort that is read: its cell o, its numbers f -/
def aSd (v : gM) (h : gH) (o : Int) (f : Int → Int) : Prop := 66 ≤ o ∧ (3 ≤ (h o).1 ∧ (h o).1 ≤ 7) ∧ 66 ≤ v o 0 ∧ h (v o 0) = (11, 3) ∧ ∀ k, 0 ≤ k → k ≤ 6 → aS v h o k = f k

theorem ct_X3_init_3 {h : gH} {o n : Int} {a : Int} (hh : h o = (3, n)) (k : Q (9, 0) (gUp v o 0 a) h t) : Ctr Γ mX3_init [(2, o), (2, a)] v h t Q := by
  refine Ctr.ofG (ls := [(2, o), (2, a)]) rfl rfl rfl rfl rfl ?_
  refine Gx_aload_n (i := 0) dX3_init_0 rfl rfl ?_
  refine cl_X3_1 dX3_init_1 rfl hh (by decide) ⟨(Nat.le_of_ble_eq_true rfl), (Nat.le_of_ble_eq_true rfl)⟩ rfl ?_
  refine Gx_aload_n (i := 0) dX3_init_4 rfl rfl ?_
  refine Gx_aload_n (i := 1) dX3_init_5 rfl rfl ?_
  refine pf_X3_7_3 dX3_init_6 rfl rfl hh ?_
  refine Gx_return dX3_init_9 rfl ?_
  exact k
theorem ct_X3_init_4 {h : gH} {o n : Int} {a : Int} (hh : h o = (4, n)) (k : Q (9, 0) (gUp v o 0 a) h t) : Ctr Γ mX3_init [(2, o), (2, a)] v h t Q := by
  refine Ctr.ofG (ls := [(2, o), (2, a)]) rfl rfl rfl rfl rfl ?_
  refine Gx_aload_n (i := 0) dX3_init_0 rfl rfl ?_
  refine cl_X3_1 dX3_init_1 rfl hh (by decide) ⟨(Nat.le_of_ble_eq_true rfl), (Nat.le_of_ble_eq_true rfl)⟩ rfl ?_
  refine Gx_aload_n (i := 0) dX3_init_4 rfl rfl ?_
  refine Gx_aload_n (i := 1) dX3_init_5 rfl rfl ?_
  refine pf_X3_7_4 dX3_init_6 rfl rfl hh ?_
  refine Gx_return dX3_init_9 rfl ?_
  exact k
theorem ct_X3_init_5 {h : gH} {o n : Int} {a : Int} (hh : h o = (5, n)) (k : Q (9, 0) (gUp v o 0 a) h t) : Ctr Γ mX3_init [(2, o), (2, a)] v h t Q := by
  refine Ctr.ofG (ls := [(2, o), (2, a)]) rfl rfl rfl rfl rfl ?_
  refine Gx_aload_n (i := 0) dX3_init_0 rfl rfl ?_
  refine cl_X3_1 dX3_init_1 rfl hh (by decide) ⟨(Nat.le_of_ble_eq_true rfl), (Nat.le_of_ble_eq_true rfl)⟩ rfl ?_
  refine Gx_aload_n (i := 0) dX3_init_4 rfl rfl ?_
  refine Gx_aload_n (i := 1) dX3_init_5 rfl rfl ?_
  refine pf_X3_7_5 dX3_init_6 rfl rfl hh ?_
  refine Gx_return dX3_init_9 rfl ?_
  exact k
theorem ct_X3_init_6 {h : gH} {o n : Int} {a : Int} (hh : h o = (6, n)) (k : Q (9, 0) (gUp v o 0 a) h t) : Ctr Γ mX3_init [(2, o), (2, a)] v h t Q := by
  refine Ctr.ofG (ls := [(2, o), (2, a)]) rfl rfl rfl rfl rfl ?_
  refine Gx_aload_n (i := 0) dX3_init_0 rfl rfl ?_
  refine cl_X3_1 dX3_init_1 rfl hh (by decide) ⟨(Nat.le_of_ble_eq_true rfl), (Nat.le_of_ble_eq_true rfl)⟩ rfl ?_
  refine Gx_aload_n (i := 0) dX3_init_4 rfl rfl ?_
  refine Gx_aload_n (i := 1) dX3_init_5 rfl rfl ?_
  refine pf_X3_7_6 dX3_init_6 rfl rfl hh ?_
  refine Gx_return dX3_init_9 rfl ?_
  exact k
theorem ct_X3_init_7 {h : gH} {o n : Int} {a : Int} (hh : h o = (7, n)) (k : Q (9, 0) (gUp v o 0 a) h t) : Ctr Γ mX3_init [(2, o), (2, a)] v h t Q := by
  refine Ctr.ofG (ls := [(2, o), (2, a)]) rfl rfl rfl rfl rfl ?_
  refine Gx_aload_n (i := 0) dX3_init_0 rfl rfl ?_
  refine cl_X3_1 dX3_init_1 rfl hh (by decide) ⟨(Nat.le_of_ble_eq_true rfl), (Nat.le_of_ble_eq_true rfl)⟩ rfl ?_
  refine Gx_aload_n (i := 0) dX3_init_4 rfl rfl ?_
  refine Gx_aload_n (i := 1) dX3_init_5 rfl rfl ?_
  refine pf_X3_7_7 dX3_init_6 rfl rfl hh ?_
  refine Gx_return dX3_init_9 rfl ?_
  exact k
theorem ct_X4_init_3 {h : gH} {o n : Int} {a : Int} (hh : h o = (3, n)) (k : Q (9, 0) (gUp v o 0 a) h t) : Ctr Γ mX4_init [(2, o), (2, a)] v h t Q := by
  refine Ctr.ofG (ls := [(2, o), (2, a)]) rfl rfl rfl rfl rfl ?_
  refine Gx_aload_n (i := 0) dX4_init_0 rfl rfl ?_
  refine Gx_aload_n (i := 1) dX4_init_1 rfl rfl ?_
  refine cl_X4_3_3 dX4_init_2 rfl hh ⟨(Nat.le_of_ble_eq_true rfl), (Nat.le_of_ble_eq_true rfl)⟩ rfl ?_
  refine ct_X3_init_3 hh ?_
  refine Gx_return dX4_init_5 rfl ?_
  exact k
theorem ct_X5_init_4 {h : gH} {o n : Int} {a x y : Int} (hh : h o = (4, n)) (k : Q (9, 0) (gUp (gUp (gUp v o 0 a) o 1 x) o 2 y) h t) : Ctr Γ mX5_init [(2, o), (2, a), (0, x), (0, y)] v h t Q := by
  refine Ctr.ofG (ls := [(2, o), (2, a), (0, x), (0, y)]) rfl rfl rfl rfl rfl ?_
  refine Gx_aload_n (i := 0) dX5_init_0 rfl rfl ?_
  refine Gx_aload_n (i := 1) dX5_init_1 rfl rfl ?_
  refine cl_X5_3_4 dX5_init_2 rfl hh ⟨(Nat.le_of_ble_eq_true rfl), (Nat.le_of_ble_eq_true rfl)⟩ rfl ?_
  refine ct_X3_init_4 hh ?_
  refine Gx_aload_n (i := 0) dX5_init_5 rfl rfl ?_
  refine Gx_iload_n (i := 2) dX5_init_6 rfl rfl ?_
  refine pf_X5_9_4 dX5_init_7 rfl rfl hh ?_
  refine Gx_aload_n (i := 0) dX5_init_10 rfl rfl ?_
  refine Gx_iload_n (i := 3) dX5_init_11 rfl rfl ?_
  refine pf_X5_15_4 dX5_init_12 rfl rfl hh ?_
  refine Gx_return dX5_init_15 rfl ?_
  exact k
theorem ct_X6_init_5 {h : gH} {o n : Int} {a x y : Int} (hh : h o = (5, n)) (k : Q (9, 0) (gUp (gUp (gUp v o 0 a) o 1 x) o 2 y) h t) : Ctr Γ mX6_init [(2, o), (2, a), (0, x), (0, y)] v h t Q := by
  refine Ctr.ofG (ls := [(2, o), (2, a), (0, x), (0, y)]) rfl rfl rfl rfl rfl ?_
  refine Gx_aload_n (i := 0) dX6_init_0 rfl rfl ?_
  refine Gx_aload_n (i := 1) dX6_init_1 rfl rfl ?_
  refine cl_X6_3_5 dX6_init_2 rfl hh ⟨(Nat.le_of_ble_eq_true rfl), (Nat.le_of_ble_eq_true rfl)⟩ rfl ?_
  refine ct_X3_init_5 hh ?_
  refine Gx_aload_n (i := 0) dX6_init_5 rfl rfl ?_
  refine Gx_iload_n (i := 2) dX6_init_6 rfl rfl ?_
  refine pf_X6_9_5 dX6_init_7 rfl rfl hh ?_
  refine Gx_aload_n (i := 0) dX6_init_10 rfl rfl ?_
  refine Gx_iload_n (i := 3) dX6_init_11 rfl rfl ?_
  refine pf_X6_15_5 dX6_init_12 rfl rfl hh ?_
  refine Gx_return dX6_init_15 rfl ?_
  exact k
theorem ct_X6_init_6 {h : gH} {o n : Int} {a x y : Int} (hh : h o = (6, n)) (k : Q (9, 0) (gUp (gUp (gUp v o 0 a) o 1 x) o 2 y) h t) : Ctr Γ mX6_init [(2, o), (2, a), (0, x), (0, y)] v h t Q := by
  refine Ctr.ofG (ls := [(2, o), (2, a), (0, x), (0, y)]) rfl rfl rfl rfl rfl ?_
  refine Gx_aload_n (i := 0) dX6_init_0 rfl rfl ?_
  refine Gx_aload_n (i := 1) dX6_init_1 rfl rfl ?_
  refine cl_X6_3_6 dX6_init_2 rfl hh ⟨(Nat.le_of_ble_eq_true rfl), (Nat.le_of_ble_eq_true rfl)⟩ rfl ?_
  refine ct_X3_init_6 hh ?_
  refine Gx_aload_n (i := 0) dX6_init_5 rfl rfl ?_
  refine Gx_iload_n (i := 2) dX6_init_6 rfl rfl ?_
  refine pf_X6_9_6 dX6_init_7 rfl rfl hh ?_
  refine Gx_aload_n (i := 0) dX6_init_10 rfl rfl ?_
  refine Gx_iload_n (i := 3) dX6_init_11 rfl rfl ?_
  refine pf_X6_15_6 dX6_init_12 rfl rfl hh ?_
  refine Gx_return dX6_init_15 rfl ?_
  exact k
theorem ct_X6_init_7 {h : gH} {o n : Int} {a x y : Int} (hh : h o = (7, n)) (k : Q (9, 0) (gUp (gUp (gUp v o 0 a) o 1 x) o 2 y) h t) : Ctr Γ mX6_init [(2, o), (2, a), (0, x), (0, y)] v h t Q := by
  refine Ctr.ofG (ls := [(2, o), (2, a), (0, x), (0, y)]) rfl rfl rfl rfl rfl ?_
  refine Gx_aload_n (i := 0) dX6_init_0 rfl rfl ?_
  refine Gx_aload_n (i := 1) dX6_init_1 rfl rfl ?_
  refine cl_X6_3_7 dX6_init_2 rfl hh ⟨(Nat.le_of_ble_eq_true rfl), (Nat.le_of_ble_eq_true rfl)⟩ rfl ?_
  refine ct_X3_init_7 hh ?_
  refine Gx_aload_n (i := 0) dX6_init_5 rfl rfl ?_
  refine Gx_iload_n (i := 2) dX6_init_6 rfl rfl ?_
  refine pf_X6_9_7 dX6_init_7 rfl rfl hh ?_
  refine Gx_aload_n (i := 0) dX6_init_10 rfl rfl ?_
  refine Gx_iload_n (i := 3) dX6_init_11 rfl rfl ?_
  refine pf_X6_15_7 dX6_init_12 rfl rfl hh ?_
  refine Gx_return dX6_init_15 rfl ?_
  exact k
theorem ct_X7_init_6 {h : gH} {o n : Int} {a x y z : Int} (hh : h o = (6, n)) (k : Q (9, 0) (gUp (gUp (gUp (gUp v o 0 a) o 1 x) o 2 y) o 3 z) h t) : Ctr Γ mX7_init [(2, o), (2, a), (0, x), (0, y), (0, z)] v h t Q := by
  refine Ctr.ofG (ls := [(2, o), (2, a), (0, x), (0, y), (0, z)]) rfl rfl rfl rfl rfl ?_
  refine Gx_aload_n (i := 0) dX7_init_0 rfl rfl ?_
  refine Gx_aload_n (i := 1) dX7_init_1 rfl rfl ?_
  refine Gx_iload_n (i := 2) dX7_init_2 rfl rfl ?_
  refine Gx_iload_n (i := 3) dX7_init_3 rfl rfl ?_
  refine cl_X7_3_6 dX7_init_4 rfl hh ⟨(Nat.le_of_ble_eq_true rfl), (Nat.le_of_ble_eq_true rfl)⟩ rfl ?_
  refine ct_X6_init_6 hh ?_
  refine Gx_aload_n (i := 0) dX7_init_7 rfl rfl ?_
  refine Gx_iload dX7_init_8 rfl ?_
  refine pf_X7_9_6 dX7_init_10 rfl rfl hh ?_
  refine Gx_return dX7_init_13 rfl ?_
  exact k
theorem ct_X8_init_7 {h : gH} {o n : Int} {a x y z : Int} (hh : h o = (7, n)) (k : Q (9, 0) (gUp (gUp (gUp (gUp v o 0 a) o 1 x) o 2 y) o 3 z) h t) : Ctr Γ mX8_init [(2, o), (2, a), (0, x), (0, y), (0, z)] v h t Q := by
  refine Ctr.ofG (ls := [(2, o), (2, a), (0, x), (0, y), (0, z)]) rfl rfl rfl rfl rfl ?_
  refine Gx_aload_n (i := 0) dX8_init_0 rfl rfl ?_
  refine Gx_aload_n (i := 1) dX8_init_1 rfl rfl ?_
  refine Gx_iload_n (i := 2) dX8_init_2 rfl rfl ?_
  refine Gx_iload_n (i := 3) dX8_init_3 rfl rfl ?_
  refine cl_X8_3_7 dX8_init_4 rfl hh ⟨(Nat.le_of_ble_eq_true rfl), (Nat.le_of_ble_eq_true rfl)⟩ rfl ?_
  refine ct_X6_init_7 hh ?_
  refine Gx_aload_n (i := 0) dX8_init_7 rfl rfl ?_
  refine Gx_iload dX8_init_8 rfl ?_
  refine pf_X8_9_7 dX8_init_10 rfl rfl hh ?_
  refine Gx_return dX8_init_13 rfl ?_
  exact k
set_option maxHeartbeats 4000000 in
theorem ct_X0_readsWarm {b : pB} {n q0 ad : Int} (h66 : 66 ≤ t) (hT : aTx v (gHd K) b n) (hq : v 0 18 = q0) (hp : 0 ≤ q0 ∧ q0 ≤ 500) (k1 : ∀ q x4 x5 x6 v1, pMore b 3 q0 = .ok (q, x4, x5, x6) → (∀ a j, a < (t : Int) → ¬ (a = 0 ∧ (j = 18 ∨ j = 19)) → v1 a j = v a j) → v1 0 18 = q → v1 t 0 = ad → v1 t 1 = x4 → v1 t 2 = x5 → (3 = 4 ∨ 3 = 5 → v1 t 3 = x6) → (3 ≠ 4 → 3 ≠ 5 → x6 = 0) → Q (2, t) v1 (gHd (gUpH K t (aCk 3, 0))) (t + 1)) (k0 : ∀ q v1, pMore b 3 q0 = .error q → (∀ a j, a < (t : Int) → ¬ (a = 0 ∧ (j = 18 ∨ j = 19)) → v1 a j = v a j) → v1 0 18 = q → Q (2, -1) v1 (gHd K) t) : Ctr Γ mX0_readsWarm [(2, 0), (2, ad)] v (gHd K) t Q := by
  refine Ctr.ofG (ls := [(2, 0), (2, ad), (9, 0)]) rfl rfl rfl rfl rfl ?_
  refine Gx_aload_n (i := 0) dX0_readsWarm_0 rfl rfl ?_
  refine Gx_bipush dX0_readsWarm_1 ⟨by decide, by decide⟩ ?_
  refine cl_X0_199 dX0_readsWarm_3 rfl rfl ⟨(Nat.le_of_ble_eq_true rfl), (Nat.le_of_ble_eq_true rfl)⟩ rfl ?_
  refine ct_X0_reads (q0 := q0) hT hq (by omega) (by omega) (fun v3 c3 hF3 hq3 hT3 => ?_) (fun v3 c3 hF3 hq3 hT3 => ?_)
  · refine Gx_if_eq (tgt := 19) dX0_readsWarm_6 (by decide) (fun hz => absurd hz (by decide)) (fun _ => ?_)
    refine Gx_aload_n (i := 0) dX0_readsWarm_9 rfl rfl ?_
    refine Gx_iconst ⟨by decide, by decide⟩ dX0_readsWarm_10 ?_
    refine Gx_iconst ⟨by decide, by decide⟩ dX0_readsWarm_11 ?_
    refine Gx_iconst ⟨by decide, by decide⟩ dX0_readsWarm_12 ?_
    refine cl_X0_180 dX0_readsWarm_13 rfl rfl ⟨(Nat.le_of_ble_eq_true rfl), (Nat.le_of_ble_eq_true rfl)⟩ rfl ?_
    refine ct_X0_readsNumber (q0 := (q0 + 1)) (f := 1) hT3 hq3 (by omega) rfl (by omega) (fun q13 x13 v13 c13 b13 hF13 hq13 hx13 hT13 => ?_) (fun q13 x13 v13 hz13 c13 b13 hF13 hq13 hx13 hT13 => ?_)
    · refine Gx_if_ne (tgt := 21) dX0_readsWarm_16 (by decide) (fun _ => ?_) (fun hz => absurd hz (by decide))
      refine Gx_aload_n (i := 0) dX0_readsWarm_21 rfl rfl ?_
      refine gf_X0_177_20 dX0_readsWarm_22 rfl rfl ?_
      rw [hx13]
      refine Gx_istore_n_2 dX0_readsWarm_25 (Nat.le_of_ble_eq_true rfl) (Nat.ne_of_beq_eq_false rfl) ?_
      refine Gx_aload_n (i := 0) dX0_readsWarm_26 rfl rfl ?_
      refine Gx_bipush dX0_readsWarm_27 ⟨by decide, by decide⟩ ?_
      refine cl_X0_199 dX0_readsWarm_29 rfl rfl ⟨(Nat.le_of_ble_eq_true rfl), (Nat.le_of_ble_eq_true rfl)⟩ rfl ?_
      refine ct_X0_reads (q0 := q13) hT13 hq13 (by omega) (by omega) (fun v29 c29 hF29 hq29 hT29 => ?_) (fun v29 c29 hF29 hq29 hT29 => ?_)
      · refine Gx_if_eq (tgt := 62) dX0_readsWarm_32 (by decide) (fun hz => absurd hz (by decide)) (fun _ => ?_)
        refine Gx_aload_n (i := 0) dX0_readsWarm_35 rfl rfl ?_
        refine Gx_iconst ⟨by decide, by decide⟩ dX0_readsWarm_36 ?_
        refine Gx_iconst ⟨by decide, by decide⟩ dX0_readsWarm_37 ?_
        refine Gx_bipush dX0_readsWarm_38 ⟨by decide, by decide⟩ ?_
        refine cl_X0_180 dX0_readsWarm_40 rfl rfl ⟨(Nat.le_of_ble_eq_true rfl), (Nat.le_of_ble_eq_true rfl)⟩ rfl ?_
        refine ct_X0_readsNumber (q0 := (q13 + 1)) (f := 2) hT29 hq29 (by omega) rfl (by omega) (fun q40 x40 v40 c40 b40 hF40 hq40 hx40 hT40 => ?_) (fun q40 x40 v40 hz40 c40 b40 hF40 hq40 hx40 hT40 => ?_)
        · refine Gx_if_eq (tgt := 62) dX0_readsWarm_43 (by decide) (fun hz => absurd hz (by decide)) (fun _ => ?_)
          refine Gx_new (k := 4) (C := RX5) (T := TX5) (N := 3) (bc' := 0) (bs' := 1) dX0_readsWarm_46 rfl (by decide) rfl in_X5 tyX5_ok (by decide) q620 q621 q122 (by decide) (by decide) ?_
          rw [gHd_up (by omega)]
          refine Gx_dup (Nat.ne_of_beq_eq_false rfl) dX0_readsWarm_49 ?_
          refine Gx_aload_n (i := 1) dX0_readsWarm_50 rfl rfl ?_
          refine Gx_iload_n (i := 2) dX0_readsWarm_51 rfl rfl ?_
          refine Gx_aload_n (i := 0) dX0_readsWarm_52 rfl rfl ?_
          refine gf_X0_177_20 dX0_readsWarm_53 rfl rfl ?_
          simp (disch := omega) only [gNf_ne, hx40]
          refine cl_X0_204_4 dX0_readsWarm_56 rfl (gHd_at (by omega)) ⟨(Nat.le_of_ble_eq_true rfl), (Nat.le_of_ble_eq_true rfl)⟩ rfl ?_
          refine ct_X5_init_4 (gHd_at (by omega)) ?_
          refine Gx_goto (tgt := 63) dX0_readsWarm_59 (by decide) ?_
          refine Gx_areturn dX0_readsWarm_63 rfl ?_
          first
            | (refine k0 q13 _ ?_ ?_ ?_
               · simp [pMore, Bind.bind, Except.bind, Pure.pure, Except.pure, *]; done
               · intro a j ha hn; simp (disch := omega) only [gUp_ne2, gUp_eq2, gNf_ne, hF3, hq3, hF13, hq13, hx13, hF29, hq29, hF40, hq40, hx40]; done
               · simp (disch := omega) only [gUp_ne2, gUp_eq2, gNf_ne, hF3, hq3, hF13, hq13, hx13, hF29, hq29, hF40, hq40, hx40]; done)
            | (refine k0 q40 _ ?_ ?_ ?_
               · simp [pMore, Bind.bind, Except.bind, Pure.pure, Except.pure, *]; done
               · intro a j ha hn; simp (disch := omega) only [gUp_ne2, gUp_eq2, gNf_ne, hF3, hq3, hF13, hq13, hx13, hF29, hq29, hF40, hq40, hx40]; done
               · simp (disch := omega) only [gUp_ne2, gUp_eq2, gNf_ne, hF3, hq3, hF13, hq13, hx13, hF29, hq29, hF40, hq40, hx40]; done)
            | (refine k1 q40 x13 x40 0 _ ?_ ?_ ?_ ?_ ?_ ?_ ?_ ?_
               · simp [pMore, Bind.bind, Except.bind, Pure.pure, Except.pure, *]; done
               · intro a j ha hn; simp (disch := omega) only [gUp_ne2, gUp_eq2, gNf_ne, hF3, hq3, hF13, hq13, hx13, hF29, hq29, hF40, hq40, hx40]; done
               · simp (disch := omega) only [gUp_ne2, gUp_eq2, gNf_ne, hF3, hq3, hF13, hq13, hx13, hF29, hq29, hF40, hq40, hx40]; done
               · simp (disch := omega) only [gUp_ne2, gUp_eq2, gNf_ne, hF3, hq3, hF13, hq13, hx13, hF29, hq29, hF40, hq40, hx40]; done
               · simp (disch := omega) only [gUp_ne2, gUp_eq2, gNf_ne, hF3, hq3, hF13, hq13, hx13, hF29, hq29, hF40, hq40, hx40]; done
               · simp (disch := omega) only [gUp_ne2, gUp_eq2, gNf_ne, hF3, hq3, hF13, hq13, hx13, hF29, hq29, hF40, hq40, hx40]; done
               · intro z; omega
               · intro _ _; omega)
        · refine Gx_if_eq (tgt := 62) dX0_readsWarm_43 (by decide) (fun _ => ?_) (fun hz => absurd hz (by decide))
          refine Gx_null dX0_readsWarm_62 ?_
          refine Gx_areturn dX0_readsWarm_63 rfl ?_
          first
            | (refine k0 q13 _ ?_ ?_ ?_
               · simp [pMore, Bind.bind, Except.bind, Pure.pure, Except.pure, *]; done
               · intro a j ha hn; simp (disch := omega) only [gUp_ne2, gUp_eq2, gNf_ne, hF3, hq3, hF13, hq13, hx13, hF29, hq29, hF40, hq40, hx40]; done
               · simp (disch := omega) only [gUp_ne2, gUp_eq2, gNf_ne, hF3, hq3, hF13, hq13, hx13, hF29, hq29, hF40, hq40, hx40]; done)
            | (refine k0 q40 _ ?_ ?_ ?_
               · simp [pMore, Bind.bind, Except.bind, Pure.pure, Except.pure, *]; done
               · intro a j ha hn; simp (disch := omega) only [gUp_ne2, gUp_eq2, gNf_ne, hF3, hq3, hF13, hq13, hx13, hF29, hq29, hF40, hq40, hx40]; done
               · simp (disch := omega) only [gUp_ne2, gUp_eq2, gNf_ne, hF3, hq3, hF13, hq13, hx13, hF29, hq29, hF40, hq40, hx40]; done)
            | (refine k1 q40 x13 x40 0 _ ?_ ?_ ?_ ?_ ?_ ?_ ?_ ?_
               · simp [pMore, Bind.bind, Except.bind, Pure.pure, Except.pure, *]; done
               · intro a j ha hn; simp (disch := omega) only [gUp_ne2, gUp_eq2, gNf_ne, hF3, hq3, hF13, hq13, hx13, hF29, hq29, hF40, hq40, hx40]; done
               · simp (disch := omega) only [gUp_ne2, gUp_eq2, gNf_ne, hF3, hq3, hF13, hq13, hx13, hF29, hq29, hF40, hq40, hx40]; done
               · simp (disch := omega) only [gUp_ne2, gUp_eq2, gNf_ne, hF3, hq3, hF13, hq13, hx13, hF29, hq29, hF40, hq40, hx40]; done
               · simp (disch := omega) only [gUp_ne2, gUp_eq2, gNf_ne, hF3, hq3, hF13, hq13, hx13, hF29, hq29, hF40, hq40, hx40]; done
               · simp (disch := omega) only [gUp_ne2, gUp_eq2, gNf_ne, hF3, hq3, hF13, hq13, hx13, hF29, hq29, hF40, hq40, hx40]; done
               · intro z; omega
               · intro _ _; omega)
      · refine Gx_if_eq (tgt := 62) dX0_readsWarm_32 (by decide) (fun _ => ?_) (fun hz => absurd hz (by decide))
        refine Gx_null dX0_readsWarm_62 ?_
        refine Gx_areturn dX0_readsWarm_63 rfl ?_
        first
          | (refine k0 q13 _ ?_ ?_ ?_
             · simp [pMore, Bind.bind, Except.bind, Pure.pure, Except.pure, *]; done
             · intro a j ha hn; simp (disch := omega) only [gUp_ne2, gUp_eq2, gNf_ne, hF3, hq3, hF13, hq13, hx13, hF29, hq29]; done
             · simp (disch := omega) only [gUp_ne2, gUp_eq2, gNf_ne, hF3, hq3, hF13, hq13, hx13, hF29, hq29]; done)
          | (refine k0 q40 _ ?_ ?_ ?_
             · simp [pMore, Bind.bind, Except.bind, Pure.pure, Except.pure, *]; done
             · intro a j ha hn; simp (disch := omega) only [gUp_ne2, gUp_eq2, gNf_ne, hF3, hq3, hF13, hq13, hx13, hF29, hq29]; done
             · simp (disch := omega) only [gUp_ne2, gUp_eq2, gNf_ne, hF3, hq3, hF13, hq13, hx13, hF29, hq29]; done)
          | (refine k1 q40 x13 x40 0 _ ?_ ?_ ?_ ?_ ?_ ?_ ?_ ?_
             · simp [pMore, Bind.bind, Except.bind, Pure.pure, Except.pure, *]; done
             · intro a j ha hn; simp (disch := omega) only [gUp_ne2, gUp_eq2, gNf_ne, hF3, hq3, hF13, hq13, hx13, hF29, hq29]; done
             · simp (disch := omega) only [gUp_ne2, gUp_eq2, gNf_ne, hF3, hq3, hF13, hq13, hx13, hF29, hq29]; done
             · simp (disch := omega) only [gUp_ne2, gUp_eq2, gNf_ne, hF3, hq3, hF13, hq13, hx13, hF29, hq29]; done
             · simp (disch := omega) only [gUp_ne2, gUp_eq2, gNf_ne, hF3, hq3, hF13, hq13, hx13, hF29, hq29]; done
             · simp (disch := omega) only [gUp_ne2, gUp_eq2, gNf_ne, hF3, hq3, hF13, hq13, hx13, hF29, hq29]; done
             · intro z; omega
             · intro _ _; omega)
    · refine Gx_if_ne (tgt := 21) dX0_readsWarm_16 (by decide) (fun hz => absurd hz (by decide)) (fun _ => ?_)
      refine Gx_null dX0_readsWarm_19 ?_
      refine Gx_areturn dX0_readsWarm_20 rfl ?_
      first
        | (refine k0 q0 _ ?_ ?_ ?_
           · simp [pMore, Bind.bind, Except.bind, Pure.pure, Except.pure, *]; done
           · intro a j ha hn; simp (disch := omega) only [gUp_ne2, gUp_eq2, gNf_ne, hF3, hq3, hF13, hq13, hx13]; done
           · simp (disch := omega) only [gUp_ne2, gUp_eq2, gNf_ne, hF3, hq3, hF13, hq13, hx13]; done)
        | (refine k0 q13 _ ?_ ?_ ?_
           · simp [pMore, Bind.bind, Except.bind, Pure.pure, Except.pure, *]; done
           · intro a j ha hn; simp (disch := omega) only [gUp_ne2, gUp_eq2, gNf_ne, hF3, hq3, hF13, hq13, hx13]; done
           · simp (disch := omega) only [gUp_ne2, gUp_eq2, gNf_ne, hF3, hq3, hF13, hq13, hx13]; done)
  · refine Gx_if_eq (tgt := 19) dX0_readsWarm_6 (by decide) (fun _ => ?_) (fun hz => absurd hz (by decide))
    refine Gx_null dX0_readsWarm_19 ?_
    refine Gx_areturn dX0_readsWarm_20 rfl ?_
    first
      | (refine k0 q0 _ ?_ ?_ ?_
         · simp [pMore, Bind.bind, Except.bind, Pure.pure, Except.pure, *]; done
         · intro a j ha hn; simp (disch := omega) only [gUp_ne2, gUp_eq2, gNf_ne, hF3, hq3]; done
         · simp (disch := omega) only [gUp_ne2, gUp_eq2, gNf_ne, hF3, hq3]; done)
      | (refine k0 q13 _ ?_ ?_ ?_
         · simp [pMore, Bind.bind, Except.bind, Pure.pure, Except.pure, *]; done
         · intro a j ha hn; simp (disch := omega) only [gUp_ne2, gUp_eq2, gNf_ne, hF3, hq3]; done
         · simp (disch := omega) only [gUp_ne2, gUp_eq2, gNf_ne, hF3, hq3]; done)

set_option maxHeartbeats 8000000 in
theorem ct_X0_readsSaver {b : pB} {n q0 ad c kd : Int} (h66 : 66 ≤ t) (hT : aTx v (gHd K) b n) (hq : v 0 18 = q0) (hp : 0 ≤ q0 ∧ q0 ≤ 500) (hc : (c = 86 ∧ kd = 2) ∨ (c = 78 ∧ kd = 4) ∨ (c = 79 ∧ kd = 5)) (k1 : ∀ q x4 x5 x6 v1, pMore b kd q0 = .ok (q, x4, x5, x6) → (∀ a j, a < (t : Int) → ¬ (a = 0 ∧ (j = 18 ∨ j = 19)) → v1 a j = v a j) → v1 0 18 = q → v1 t 0 = ad → v1 t 1 = x4 → v1 t 2 = x5 → (kd = 4 ∨ kd = 5 → v1 t 3 = x6) → (kd ≠ 4 → kd ≠ 5 → x6 = 0) → Q (2, t) v1 (gHd (gUpH K t (aCk kd, 0))) (t + 1)) (k0 : ∀ q v1, pMore b kd q0 = .error q → (∀ a j, a < (t : Int) → ¬ (a = 0 ∧ (j = 18 ∨ j = 19)) → v1 a j = v a j) → v1 0 18 = q → Q (2, -1) v1 (gHd K) t) : Ctr Γ mX0_readsSaver [(2, 0), (0, c), (2, ad)] v (gHd K) t Q := by
  refine Ctr.ofG (ls := [(2, 0), (0, c), (2, ad), (9, 0), (9, 0)]) rfl rfl rfl rfl rfl ?_
  have hk3 : ¬ kd = 3 := by omega
  refine Gx_aload_n (i := 0) dX0_readsSaver_0 rfl rfl ?_
  refine Gx_bipush dX0_readsSaver_1 ⟨by decide, by decide⟩ ?_
  refine cl_X0_199 dX0_readsSaver_3 rfl rfl ⟨(Nat.le_of_ble_eq_true rfl), (Nat.le_of_ble_eq_true rfl)⟩ rfl ?_
  refine ct_X0_reads (q0 := q0) hT hq (by omega) (by omega) (fun v3 c3 hF3 hq3 hT3 => ?_) (fun v3 c3 hF3 hq3 hT3 => ?_)
  · refine Gx_if_eq (tgt := 20) dX0_readsSaver_6 (by decide) (fun hz => absurd hz (by decide)) (fun _ => ?_)
    refine Gx_aload_n (i := 0) dX0_readsSaver_9 rfl rfl ?_
    refine Gx_iconst ⟨by decide, by decide⟩ dX0_readsSaver_10 ?_
    refine Gx_iconst ⟨by decide, by decide⟩ dX0_readsSaver_11 ?_
    refine Gx_bipush dX0_readsSaver_12 ⟨by decide, by decide⟩ ?_
    refine cl_X0_180 dX0_readsSaver_14 rfl rfl ⟨(Nat.le_of_ble_eq_true rfl), (Nat.le_of_ble_eq_true rfl)⟩ rfl ?_
    refine ct_X0_readsNumber (q0 := (q0 + 1)) (f := 2) hT3 hq3 (by omega) rfl (by omega) (fun q14 x14 v14 c14 b14 hF14 hq14 hx14 hT14 => ?_) (fun q14 x14 v14 hz14 c14 b14 hF14 hq14 hx14 hT14 => ?_)
    · refine Gx_if_ne (tgt := 22) dX0_readsSaver_17 (by decide) (fun _ => ?_) (fun hz => absurd hz (by decide))
      refine Gx_aload_n (i := 0) dX0_readsSaver_22 rfl rfl ?_
      refine gf_X0_177_20 dX0_readsSaver_23 rfl rfl ?_
      rw [hx14]
      refine Gx_istore_n_3 dX0_readsSaver_26 (Nat.le_of_ble_eq_true rfl) (Nat.ne_of_beq_eq_false rfl) ?_
      refine Gx_aload_n (i := 0) dX0_readsSaver_27 rfl rfl ?_
      refine Gx_bipush dX0_readsSaver_28 ⟨by decide, by decide⟩ ?_
      refine cl_X0_199 dX0_readsSaver_30 rfl rfl ⟨(Nat.le_of_ble_eq_true rfl), (Nat.le_of_ble_eq_true rfl)⟩ rfl ?_
      refine ct_X0_reads (q0 := q14) hT14 hq14 (by omega) (by omega) (fun v30 c30 hF30 hq30 hT30 => ?_) (fun v30 c30 hF30 hq30 hT30 => ?_)
      · refine Gx_if_eq (tgt := 53) dX0_readsSaver_33 (by decide) (fun hz => absurd hz (by decide)) (fun _ => ?_)
        refine Gx_aload_n (i := 0) dX0_readsSaver_36 rfl rfl ?_
        refine Gx_iconst ⟨by decide, by decide⟩ dX0_readsSaver_37 ?_
        refine Gx_iconst ⟨by decide, by decide⟩ dX0_readsSaver_38 ?_
        refine Gx_bipush dX0_readsSaver_39 ⟨by decide, by decide⟩ ?_
        refine Gx_iload_n (i := 3) dX0_readsSaver_41 rfl rfl ?_
        refine Gx_iconst ⟨by decide, by decide⟩ dX0_readsSaver_42 ?_
        refine Gx_iadd dX0_readsSaver_43 ?_
        try simp (disch := omega) only [w32_id]
        refine cl_X0_207 dX0_readsSaver_44 rfl ⟨(Nat.le_of_ble_eq_true rfl), (Nat.le_of_ble_eq_true rfl)⟩ rfl ?_
        refine cl_X0_180 dX0_readsSaver_47 rfl rfl ⟨(Nat.le_of_ble_eq_true rfl), (Nat.le_of_ble_eq_true rfl)⟩ rfl ?_
        refine ct_X0_readsNumber (q0 := (q14 + 1)) (f := 2) hT30 hq30 (by omega) rfl (by omega) (fun q47 x47 v47 c47 b47 hF47 hq47 hx47 hT47 => ?_) (fun q47 x47 v47 hz47 c47 b47 hF47 hq47 hx47 hT47 => ?_)
        · refine Gx_if_ne (tgt := 55) dX0_readsSaver_50 (by decide) (fun _ => ?_) (fun hz => absurd hz (by decide))
          refine Gx_aload_n (i := 0) dX0_readsSaver_55 rfl rfl ?_
          refine gf_X0_177_20 dX0_readsSaver_56 rfl rfl ?_
          rw [hx47]
          refine Gx_istore_4 dX0_readsSaver_59 (Nat.le_of_ble_eq_true rfl) (Nat.ne_of_beq_eq_false rfl) ?_
          refine Gx_iload_n (i := 1) dX0_readsSaver_61 rfl rfl ?_
          refine Gx_bipush dX0_readsSaver_62 ⟨by decide, by decide⟩ ?_
          refine Gx_icmp_ne (tgt := 79) dX0_readsSaver_64 (by decide) (fun c64 => ?_) (fun c64 => ?_)
          · refine Gx_iload_n (i := 1) dX0_readsSaver_79 rfl rfl ?_
            refine Gx_bipush dX0_readsSaver_80 ⟨by decide, by decide⟩ ?_
            refine Gx_icmp_ne (tgt := 125) dX0_readsSaver_82 (by decide) (fun c82 => ?_) (fun c82 => ?_)
            · refine Gx_aload_n (i := 0) dX0_readsSaver_125 rfl rfl ?_
              refine Gx_bipush dX0_readsSaver_126 ⟨by decide, by decide⟩ ?_
              refine cl_X0_199 dX0_readsSaver_128 rfl rfl ⟨(Nat.le_of_ble_eq_true rfl), (Nat.le_of_ble_eq_true rfl)⟩ rfl ?_
              refine ct_X0_reads (q0 := q47) hT47 hq47 (by omega) (by omega) (fun v128 c128 hF128 hq128 hT128 => ?_) (fun v128 c128 hF128 hq128 hT128 => ?_)
              · refine Gx_if_eq (tgt := 163) dX0_readsSaver_131 (by decide) (fun hz => absurd hz (by decide)) (fun _ => ?_)
                refine Gx_aload_n (i := 0) dX0_readsSaver_134 rfl rfl ?_
                refine Gx_iconst ⟨by decide, by decide⟩ dX0_readsSaver_135 ?_
                refine Gx_iconst ⟨by decide, by decide⟩ dX0_readsSaver_136 ?_
                refine Gx_bipush dX0_readsSaver_137 ⟨by decide, by decide⟩ ?_
                refine cl_X0_180 dX0_readsSaver_139 rfl rfl ⟨(Nat.le_of_ble_eq_true rfl), (Nat.le_of_ble_eq_true rfl)⟩ rfl ?_
                refine ct_X0_readsNumber (q0 := (q47 + 1)) (f := 1) hT128 hq128 (by omega) rfl (by omega) (fun q139 x139 v139 c139 b139 hF139 hq139 hx139 hT139 => ?_) (fun q139 x139 v139 hz139 c139 b139 hF139 hq139 hx139 hT139 => ?_)
                · refine Gx_if_eq (tgt := 163) dX0_readsSaver_142 (by decide) (fun hz => absurd hz (by decide)) (fun _ => ?_)
                  refine Gx_new (k := 7) (C := RX8) (T := TX8) (N := 4) (bc' := 0) (bs' := 0) dX0_readsSaver_145 rfl (by decide) rfl in_X8 tyX8_ok (by decide) q669 q670 q126 (by decide) (by decide) ?_
                  rw [gHd_up (by omega)]
                  refine Gx_dup (Nat.ne_of_beq_eq_false rfl) dX0_readsSaver_148 ?_
                  refine Gx_aload_n (i := 2) dX0_readsSaver_149 rfl rfl ?_
                  refine Gx_iload_n (i := 3) dX0_readsSaver_150 rfl rfl ?_
                  refine Gx_iload dX0_readsSaver_151 rfl ?_
                  refine Gx_aload_n (i := 0) dX0_readsSaver_153 rfl rfl ?_
                  refine gf_X0_177_20 dX0_readsSaver_154 rfl rfl ?_
                  simp (disch := omega) only [gNf_ne, hx139]
                  refine cl_X0_222_7 dX0_readsSaver_157 rfl (gHd_at (by omega)) ⟨(Nat.le_of_ble_eq_true rfl), (Nat.le_of_ble_eq_true rfl)⟩ rfl ?_
                  refine ct_X8_init_7 (gHd_at (by omega)) ?_
                  refine Gx_goto (tgt := 164) dX0_readsSaver_160 (by decide) ?_
                  refine Gx_areturn dX0_readsSaver_164 rfl ?_
                  have hk : kd = 5 := by omega
                  subst hk
                  first
                    | (refine k1 q139 x14 x47 x139 _ ?_ ?_ ?_ ?_ ?_ ?_ ?_ ?_
                       · simp [pMore, Bind.bind, Except.bind, Pure.pure, Except.pure, *]; done
                       · intro a j ha hn; simp (disch := omega) only [gUp_ne2, gUp_eq2, gNf_ne, hF3, hq3, hF14, hq14, hx14, hF30, hq30, hF47, hq47, hx47, hF128, hq128, hF139, hq139, hx139]; done
                       · simp (disch := omega) only [gUp_ne2, gUp_eq2, gNf_ne, hF3, hq3, hF14, hq14, hx14, hF30, hq30, hF47, hq47, hx47, hF128, hq128, hF139, hq139, hx139]; done
                       · simp (disch := omega) only [gUp_ne2, gUp_eq2, gNf_ne, hF3, hq3, hF14, hq14, hx14, hF30, hq30, hF47, hq47, hx47, hF128, hq128, hF139, hq139, hx139]; done
                       · simp (disch := omega) only [gUp_ne2, gUp_eq2, gNf_ne, hF3, hq3, hF14, hq14, hx14, hF30, hq30, hF47, hq47, hx47, hF128, hq128, hF139, hq139, hx139]; done
                       · simp (disch := omega) only [gUp_ne2, gUp_eq2, gNf_ne, hF3, hq3, hF14, hq14, hx14, hF30, hq30, hF47, hq47, hx47, hF128, hq128, hF139, hq139, hx139]; done
                       · intro _; simp (disch := omega) only [gUp_ne2, gUp_eq2, gNf_ne, hF3, hq3, hF14, hq14, hx14, hF30, hq30, hF47, hq47, hx47, hF128, hq128, hF139, hq139, hx139]; done
                       · intro _ _; omega)
                    | (refine k0 q47 _ ?_ ?_ ?_
                       · simp [pMore, Bind.bind, Except.bind, Pure.pure, Except.pure, *]; done
                       · intro a j ha hn; simp (disch := omega) only [gUp_ne2, gUp_eq2, gNf_ne, hF3, hq3, hF14, hq14, hx14, hF30, hq30, hF47, hq47, hx47, hF128, hq128, hF139, hq139, hx139]; done
                       · simp (disch := omega) only [gUp_ne2, gUp_eq2, gNf_ne, hF3, hq3, hF14, hq14, hx14, hF30, hq30, hF47, hq47, hx47, hF128, hq128, hF139, hq139, hx139]; done)
                    | (refine k0 q139 _ ?_ ?_ ?_
                       · simp [pMore, Bind.bind, Except.bind, Pure.pure, Except.pure, *]; done
                       · intro a j ha hn; simp (disch := omega) only [gUp_ne2, gUp_eq2, gNf_ne, hF3, hq3, hF14, hq14, hx14, hF30, hq30, hF47, hq47, hx47, hF128, hq128, hF139, hq139, hx139]; done
                       · simp (disch := omega) only [gUp_ne2, gUp_eq2, gNf_ne, hF3, hq3, hF14, hq14, hx14, hF30, hq30, hF47, hq47, hx47, hF128, hq128, hF139, hq139, hx139]; done)
                · refine Gx_if_eq (tgt := 163) dX0_readsSaver_142 (by decide) (fun _ => ?_) (fun hz => absurd hz (by decide))
                  refine Gx_null dX0_readsSaver_163 ?_
                  refine Gx_areturn dX0_readsSaver_164 rfl ?_
                  have hk : kd = 5 := by omega
                  subst hk
                  first
                    | (refine k1 q139 x14 x47 x139 _ ?_ ?_ ?_ ?_ ?_ ?_ ?_ ?_
                       · simp [pMore, Bind.bind, Except.bind, Pure.pure, Except.pure, *]; done
                       · intro a j ha hn; simp (disch := omega) only [gUp_ne2, gUp_eq2, gNf_ne, hF3, hq3, hF14, hq14, hx14, hF30, hq30, hF47, hq47, hx47, hF128, hq128, hF139, hq139, hx139]; done
                       · simp (disch := omega) only [gUp_ne2, gUp_eq2, gNf_ne, hF3, hq3, hF14, hq14, hx14, hF30, hq30, hF47, hq47, hx47, hF128, hq128, hF139, hq139, hx139]; done
                       · simp (disch := omega) only [gUp_ne2, gUp_eq2, gNf_ne, hF3, hq3, hF14, hq14, hx14, hF30, hq30, hF47, hq47, hx47, hF128, hq128, hF139, hq139, hx139]; done
                       · simp (disch := omega) only [gUp_ne2, gUp_eq2, gNf_ne, hF3, hq3, hF14, hq14, hx14, hF30, hq30, hF47, hq47, hx47, hF128, hq128, hF139, hq139, hx139]; done
                       · simp (disch := omega) only [gUp_ne2, gUp_eq2, gNf_ne, hF3, hq3, hF14, hq14, hx14, hF30, hq30, hF47, hq47, hx47, hF128, hq128, hF139, hq139, hx139]; done
                       · intro _; simp (disch := omega) only [gUp_ne2, gUp_eq2, gNf_ne, hF3, hq3, hF14, hq14, hx14, hF30, hq30, hF47, hq47, hx47, hF128, hq128, hF139, hq139, hx139]; done
                       · intro _ _; omega)
                    | (refine k0 q47 _ ?_ ?_ ?_
                       · simp [pMore, Bind.bind, Except.bind, Pure.pure, Except.pure, *]; done
                       · intro a j ha hn; simp (disch := omega) only [gUp_ne2, gUp_eq2, gNf_ne, hF3, hq3, hF14, hq14, hx14, hF30, hq30, hF47, hq47, hx47, hF128, hq128, hF139, hq139, hx139]; done
                       · simp (disch := omega) only [gUp_ne2, gUp_eq2, gNf_ne, hF3, hq3, hF14, hq14, hx14, hF30, hq30, hF47, hq47, hx47, hF128, hq128, hF139, hq139, hx139]; done)
                    | (refine k0 q139 _ ?_ ?_ ?_
                       · simp [pMore, Bind.bind, Except.bind, Pure.pure, Except.pure, *]; done
                       · intro a j ha hn; simp (disch := omega) only [gUp_ne2, gUp_eq2, gNf_ne, hF3, hq3, hF14, hq14, hx14, hF30, hq30, hF47, hq47, hx47, hF128, hq128, hF139, hq139, hx139]; done
                       · simp (disch := omega) only [gUp_ne2, gUp_eq2, gNf_ne, hF3, hq3, hF14, hq14, hx14, hF30, hq30, hF47, hq47, hx47, hF128, hq128, hF139, hq139, hx139]; done)
              · refine Gx_if_eq (tgt := 163) dX0_readsSaver_131 (by decide) (fun _ => ?_) (fun hz => absurd hz (by decide))
                refine Gx_null dX0_readsSaver_163 ?_
                refine Gx_areturn dX0_readsSaver_164 rfl ?_
                have hk : kd = 5 := by omega
                subst hk
                first
                  | (refine k1 q139 x14 x47 x139 _ ?_ ?_ ?_ ?_ ?_ ?_ ?_ ?_
                     · simp [pMore, Bind.bind, Except.bind, Pure.pure, Except.pure, *]; done
                     · intro a j ha hn; simp (disch := omega) only [gUp_ne2, gUp_eq2, gNf_ne, hF3, hq3, hF14, hq14, hx14, hF30, hq30, hF47, hq47, hx47, hF128, hq128]; done
                     · simp (disch := omega) only [gUp_ne2, gUp_eq2, gNf_ne, hF3, hq3, hF14, hq14, hx14, hF30, hq30, hF47, hq47, hx47, hF128, hq128]; done
                     · simp (disch := omega) only [gUp_ne2, gUp_eq2, gNf_ne, hF3, hq3, hF14, hq14, hx14, hF30, hq30, hF47, hq47, hx47, hF128, hq128]; done
                     · simp (disch := omega) only [gUp_ne2, gUp_eq2, gNf_ne, hF3, hq3, hF14, hq14, hx14, hF30, hq30, hF47, hq47, hx47, hF128, hq128]; done
                     · simp (disch := omega) only [gUp_ne2, gUp_eq2, gNf_ne, hF3, hq3, hF14, hq14, hx14, hF30, hq30, hF47, hq47, hx47, hF128, hq128]; done
                     · intro _; simp (disch := omega) only [gUp_ne2, gUp_eq2, gNf_ne, hF3, hq3, hF14, hq14, hx14, hF30, hq30, hF47, hq47, hx47, hF128, hq128]; done
                     · intro _ _; omega)
                  | (refine k0 q47 _ ?_ ?_ ?_
                     · simp [pMore, Bind.bind, Except.bind, Pure.pure, Except.pure, *]; done
                     · intro a j ha hn; simp (disch := omega) only [gUp_ne2, gUp_eq2, gNf_ne, hF3, hq3, hF14, hq14, hx14, hF30, hq30, hF47, hq47, hx47, hF128, hq128]; done
                     · simp (disch := omega) only [gUp_ne2, gUp_eq2, gNf_ne, hF3, hq3, hF14, hq14, hx14, hF30, hq30, hF47, hq47, hx47, hF128, hq128]; done)
                  | (refine k0 q139 _ ?_ ?_ ?_
                     · simp [pMore, Bind.bind, Except.bind, Pure.pure, Except.pure, *]; done
                     · intro a j ha hn; simp (disch := omega) only [gUp_ne2, gUp_eq2, gNf_ne, hF3, hq3, hF14, hq14, hx14, hF30, hq30, hF47, hq47, hx47, hF128, hq128]; done
                     · simp (disch := omega) only [gUp_ne2, gUp_eq2, gNf_ne, hF3, hq3, hF14, hq14, hx14, hF30, hq30, hF47, hq47, hx47, hF128, hq128]; done)
            · refine Gx_aload_n (i := 0) dX0_readsSaver_85 rfl rfl ?_
              refine Gx_bipush dX0_readsSaver_86 ⟨by decide, by decide⟩ ?_
              refine cl_X0_199 dX0_readsSaver_88 rfl rfl ⟨(Nat.le_of_ble_eq_true rfl), (Nat.le_of_ble_eq_true rfl)⟩ rfl ?_
              refine ct_X0_reads (q0 := q47) hT47 hq47 (by omega) (by omega) (fun v88 c88 hF88 hq88 hT88 => ?_) (fun v88 c88 hF88 hq88 hT88 => ?_)
              · refine Gx_if_eq (tgt := 123) dX0_readsSaver_91 (by decide) (fun hz => absurd hz (by decide)) (fun _ => ?_)
                refine Gx_aload_n (i := 0) dX0_readsSaver_94 rfl rfl ?_
                refine Gx_iconst ⟨by decide, by decide⟩ dX0_readsSaver_95 ?_
                refine Gx_iconst ⟨by decide, by decide⟩ dX0_readsSaver_96 ?_
                refine Gx_bipush dX0_readsSaver_97 ⟨by decide, by decide⟩ ?_
                refine cl_X0_180 dX0_readsSaver_99 rfl rfl ⟨(Nat.le_of_ble_eq_true rfl), (Nat.le_of_ble_eq_true rfl)⟩ rfl ?_
                refine ct_X0_readsNumber (q0 := (q47 + 1)) (f := 2) hT88 hq88 (by omega) rfl (by omega) (fun q99 x99 v99 c99 b99 hF99 hq99 hx99 hT99 => ?_) (fun q99 x99 v99 hz99 c99 b99 hF99 hq99 hx99 hT99 => ?_)
                · refine Gx_if_eq (tgt := 123) dX0_readsSaver_102 (by decide) (fun hz => absurd hz (by decide)) (fun _ => ?_)
                  refine Gx_new (k := 6) (C := RX7) (T := TX7) (N := 4) (bc' := 0) (bs' := 0) dX0_readsSaver_105 rfl (by decide) rfl in_X7 tyX7_ok (by decide) q655 q656 q125 (by decide) (by decide) ?_
                  rw [gHd_up (by omega)]
                  refine Gx_dup (Nat.ne_of_beq_eq_false rfl) dX0_readsSaver_108 ?_
                  refine Gx_aload_n (i := 2) dX0_readsSaver_109 rfl rfl ?_
                  refine Gx_iload_n (i := 3) dX0_readsSaver_110 rfl rfl ?_
                  refine Gx_iload dX0_readsSaver_111 rfl ?_
                  refine Gx_aload_n (i := 0) dX0_readsSaver_113 rfl rfl ?_
                  refine gf_X0_177_20 dX0_readsSaver_114 rfl rfl ?_
                  simp (disch := omega) only [gNf_ne, hx99]
                  refine cl_X0_217_6 dX0_readsSaver_117 rfl (gHd_at (by omega)) ⟨(Nat.le_of_ble_eq_true rfl), (Nat.le_of_ble_eq_true rfl)⟩ rfl ?_
                  refine ct_X7_init_6 (gHd_at (by omega)) ?_
                  refine Gx_goto (tgt := 124) dX0_readsSaver_120 (by decide) ?_
                  refine Gx_areturn dX0_readsSaver_124 rfl ?_
                  have hk : kd = 4 := by omega
                  subst hk
                  first
                    | (refine k1 q99 x14 x47 x99 _ ?_ ?_ ?_ ?_ ?_ ?_ ?_ ?_
                       · simp [pMore, Bind.bind, Except.bind, Pure.pure, Except.pure, *]; done
                       · intro a j ha hn; simp (disch := omega) only [gUp_ne2, gUp_eq2, gNf_ne, hF3, hq3, hF14, hq14, hx14, hF30, hq30, hF47, hq47, hx47, hF88, hq88, hF99, hq99, hx99]; done
                       · simp (disch := omega) only [gUp_ne2, gUp_eq2, gNf_ne, hF3, hq3, hF14, hq14, hx14, hF30, hq30, hF47, hq47, hx47, hF88, hq88, hF99, hq99, hx99]; done
                       · simp (disch := omega) only [gUp_ne2, gUp_eq2, gNf_ne, hF3, hq3, hF14, hq14, hx14, hF30, hq30, hF47, hq47, hx47, hF88, hq88, hF99, hq99, hx99]; done
                       · simp (disch := omega) only [gUp_ne2, gUp_eq2, gNf_ne, hF3, hq3, hF14, hq14, hx14, hF30, hq30, hF47, hq47, hx47, hF88, hq88, hF99, hq99, hx99]; done
                       · simp (disch := omega) only [gUp_ne2, gUp_eq2, gNf_ne, hF3, hq3, hF14, hq14, hx14, hF30, hq30, hF47, hq47, hx47, hF88, hq88, hF99, hq99, hx99]; done
                       · intro _; simp (disch := omega) only [gUp_ne2, gUp_eq2, gNf_ne, hF3, hq3, hF14, hq14, hx14, hF30, hq30, hF47, hq47, hx47, hF88, hq88, hF99, hq99, hx99]; done
                       · intro _ _; omega)
                    | (refine k0 q47 _ ?_ ?_ ?_
                       · simp [pMore, Bind.bind, Except.bind, Pure.pure, Except.pure, *]; done
                       · intro a j ha hn; simp (disch := omega) only [gUp_ne2, gUp_eq2, gNf_ne, hF3, hq3, hF14, hq14, hx14, hF30, hq30, hF47, hq47, hx47, hF88, hq88, hF99, hq99, hx99]; done
                       · simp (disch := omega) only [gUp_ne2, gUp_eq2, gNf_ne, hF3, hq3, hF14, hq14, hx14, hF30, hq30, hF47, hq47, hx47, hF88, hq88, hF99, hq99, hx99]; done)
                    | (refine k0 q99 _ ?_ ?_ ?_
                       · simp [pMore, Bind.bind, Except.bind, Pure.pure, Except.pure, *]; done
                       · intro a j ha hn; simp (disch := omega) only [gUp_ne2, gUp_eq2, gNf_ne, hF3, hq3, hF14, hq14, hx14, hF30, hq30, hF47, hq47, hx47, hF88, hq88, hF99, hq99, hx99]; done
                       · simp (disch := omega) only [gUp_ne2, gUp_eq2, gNf_ne, hF3, hq3, hF14, hq14, hx14, hF30, hq30, hF47, hq47, hx47, hF88, hq88, hF99, hq99, hx99]; done)
                · refine Gx_if_eq (tgt := 123) dX0_readsSaver_102 (by decide) (fun _ => ?_) (fun hz => absurd hz (by decide))
                  refine Gx_null dX0_readsSaver_123 ?_
                  refine Gx_areturn dX0_readsSaver_124 rfl ?_
                  have hk : kd = 4 := by omega
                  subst hk
                  first
                    | (refine k1 q99 x14 x47 x99 _ ?_ ?_ ?_ ?_ ?_ ?_ ?_ ?_
                       · simp [pMore, Bind.bind, Except.bind, Pure.pure, Except.pure, *]; done
                       · intro a j ha hn; simp (disch := omega) only [gUp_ne2, gUp_eq2, gNf_ne, hF3, hq3, hF14, hq14, hx14, hF30, hq30, hF47, hq47, hx47, hF88, hq88, hF99, hq99, hx99]; done
                       · simp (disch := omega) only [gUp_ne2, gUp_eq2, gNf_ne, hF3, hq3, hF14, hq14, hx14, hF30, hq30, hF47, hq47, hx47, hF88, hq88, hF99, hq99, hx99]; done
                       · simp (disch := omega) only [gUp_ne2, gUp_eq2, gNf_ne, hF3, hq3, hF14, hq14, hx14, hF30, hq30, hF47, hq47, hx47, hF88, hq88, hF99, hq99, hx99]; done
                       · simp (disch := omega) only [gUp_ne2, gUp_eq2, gNf_ne, hF3, hq3, hF14, hq14, hx14, hF30, hq30, hF47, hq47, hx47, hF88, hq88, hF99, hq99, hx99]; done
                       · simp (disch := omega) only [gUp_ne2, gUp_eq2, gNf_ne, hF3, hq3, hF14, hq14, hx14, hF30, hq30, hF47, hq47, hx47, hF88, hq88, hF99, hq99, hx99]; done
                       · intro _; simp (disch := omega) only [gUp_ne2, gUp_eq2, gNf_ne, hF3, hq3, hF14, hq14, hx14, hF30, hq30, hF47, hq47, hx47, hF88, hq88, hF99, hq99, hx99]; done
                       · intro _ _; omega)
                    | (refine k0 q47 _ ?_ ?_ ?_
                       · simp [pMore, Bind.bind, Except.bind, Pure.pure, Except.pure, *]; done
                       · intro a j ha hn; simp (disch := omega) only [gUp_ne2, gUp_eq2, gNf_ne, hF3, hq3, hF14, hq14, hx14, hF30, hq30, hF47, hq47, hx47, hF88, hq88, hF99, hq99, hx99]; done
                       · simp (disch := omega) only [gUp_ne2, gUp_eq2, gNf_ne, hF3, hq3, hF14, hq14, hx14, hF30, hq30, hF47, hq47, hx47, hF88, hq88, hF99, hq99, hx99]; done)
                    | (refine k0 q99 _ ?_ ?_ ?_
                       · simp [pMore, Bind.bind, Except.bind, Pure.pure, Except.pure, *]; done
                       · intro a j ha hn; simp (disch := omega) only [gUp_ne2, gUp_eq2, gNf_ne, hF3, hq3, hF14, hq14, hx14, hF30, hq30, hF47, hq47, hx47, hF88, hq88, hF99, hq99, hx99]; done
                       · simp (disch := omega) only [gUp_ne2, gUp_eq2, gNf_ne, hF3, hq3, hF14, hq14, hx14, hF30, hq30, hF47, hq47, hx47, hF88, hq88, hF99, hq99, hx99]; done)
              · refine Gx_if_eq (tgt := 123) dX0_readsSaver_91 (by decide) (fun _ => ?_) (fun hz => absurd hz (by decide))
                refine Gx_null dX0_readsSaver_123 ?_
                refine Gx_areturn dX0_readsSaver_124 rfl ?_
                have hk : kd = 4 := by omega
                subst hk
                first
                  | (refine k1 q99 x14 x47 x99 _ ?_ ?_ ?_ ?_ ?_ ?_ ?_ ?_
                     · simp [pMore, Bind.bind, Except.bind, Pure.pure, Except.pure, *]; done
                     · intro a j ha hn; simp (disch := omega) only [gUp_ne2, gUp_eq2, gNf_ne, hF3, hq3, hF14, hq14, hx14, hF30, hq30, hF47, hq47, hx47, hF88, hq88]; done
                     · simp (disch := omega) only [gUp_ne2, gUp_eq2, gNf_ne, hF3, hq3, hF14, hq14, hx14, hF30, hq30, hF47, hq47, hx47, hF88, hq88]; done
                     · simp (disch := omega) only [gUp_ne2, gUp_eq2, gNf_ne, hF3, hq3, hF14, hq14, hx14, hF30, hq30, hF47, hq47, hx47, hF88, hq88]; done
                     · simp (disch := omega) only [gUp_ne2, gUp_eq2, gNf_ne, hF3, hq3, hF14, hq14, hx14, hF30, hq30, hF47, hq47, hx47, hF88, hq88]; done
                     · simp (disch := omega) only [gUp_ne2, gUp_eq2, gNf_ne, hF3, hq3, hF14, hq14, hx14, hF30, hq30, hF47, hq47, hx47, hF88, hq88]; done
                     · intro _; simp (disch := omega) only [gUp_ne2, gUp_eq2, gNf_ne, hF3, hq3, hF14, hq14, hx14, hF30, hq30, hF47, hq47, hx47, hF88, hq88]; done
                     · intro _ _; omega)
                  | (refine k0 q47 _ ?_ ?_ ?_
                     · simp [pMore, Bind.bind, Except.bind, Pure.pure, Except.pure, *]; done
                     · intro a j ha hn; simp (disch := omega) only [gUp_ne2, gUp_eq2, gNf_ne, hF3, hq3, hF14, hq14, hx14, hF30, hq30, hF47, hq47, hx47, hF88, hq88]; done
                     · simp (disch := omega) only [gUp_ne2, gUp_eq2, gNf_ne, hF3, hq3, hF14, hq14, hx14, hF30, hq30, hF47, hq47, hx47, hF88, hq88]; done)
                  | (refine k0 q99 _ ?_ ?_ ?_
                     · simp [pMore, Bind.bind, Except.bind, Pure.pure, Except.pure, *]; done
                     · intro a j ha hn; simp (disch := omega) only [gUp_ne2, gUp_eq2, gNf_ne, hF3, hq3, hF14, hq14, hx14, hF30, hq30, hF47, hq47, hx47, hF88, hq88]; done
                     · simp (disch := omega) only [gUp_ne2, gUp_eq2, gNf_ne, hF3, hq3, hF14, hq14, hx14, hF30, hq30, hF47, hq47, hx47, hF88, hq88]; done)
          · refine Gx_new (k := 5) (C := RX6) (T := TX6) (N := 3) (bc' := 0) (bs' := 1) dX0_readsSaver_67 rfl (by decide) rfl in_X6 tyX6_ok (by decide) q641 q642 q124 (by decide) (by decide) ?_
            rw [gHd_up (by omega)]
            refine Gx_dup (Nat.ne_of_beq_eq_false rfl) dX0_readsSaver_70 ?_
            refine Gx_aload_n (i := 2) dX0_readsSaver_71 rfl rfl ?_
            refine Gx_iload_n (i := 3) dX0_readsSaver_72 rfl rfl ?_
            refine Gx_iload dX0_readsSaver_73 rfl ?_
            refine cl_X0_214_5 dX0_readsSaver_75 rfl (gHd_at (by omega)) ⟨(Nat.le_of_ble_eq_true rfl), (Nat.le_of_ble_eq_true rfl)⟩ rfl ?_
            refine ct_X6_init_5 (gHd_at (by omega)) ?_
            refine Gx_areturn dX0_readsSaver_78 rfl ?_
            have hk : kd = 2 := by omega
            subst hk
            first
              | (refine k1 q47 x14 x47 0 _ ?_ ?_ ?_ ?_ ?_ ?_ ?_ ?_
                 · simp [pMore, Bind.bind, Except.bind, Pure.pure, Except.pure, *]; done
                 · intro a j ha hn; simp (disch := omega) only [gUp_ne2, gUp_eq2, gNf_ne, hF3, hq3, hF14, hq14, hx14, hF30, hq30, hF47, hq47, hx47]; done
                 · simp (disch := omega) only [gUp_ne2, gUp_eq2, gNf_ne, hF3, hq3, hF14, hq14, hx14, hF30, hq30, hF47, hq47, hx47]; done
                 · simp (disch := omega) only [gUp_ne2, gUp_eq2, gNf_ne, hF3, hq3, hF14, hq14, hx14, hF30, hq30, hF47, hq47, hx47]; done
                 · simp (disch := omega) only [gUp_ne2, gUp_eq2, gNf_ne, hF3, hq3, hF14, hq14, hx14, hF30, hq30, hF47, hq47, hx47]; done
                 · simp (disch := omega) only [gUp_ne2, gUp_eq2, gNf_ne, hF3, hq3, hF14, hq14, hx14, hF30, hq30, hF47, hq47, hx47]; done
                 · intro z; omega
                 · intro _ _; omega)
        · refine Gx_if_ne (tgt := 55) dX0_readsSaver_50 (by decide) (fun hz => absurd hz (by decide)) (fun _ => ?_)
          refine Gx_null dX0_readsSaver_53 ?_
          refine Gx_areturn dX0_readsSaver_54 rfl ?_
          first
            | (refine k0 q14 _ ?_ ?_ ?_
               · simp [pMore, Bind.bind, Except.bind, Pure.pure, Except.pure, *]; done
               · intro a j ha hn; simp (disch := omega) only [gUp_ne2, gUp_eq2, gNf_ne, hF3, hq3, hF14, hq14, hx14, hF30, hq30, hF47, hq47, hx47]; done
               · simp (disch := omega) only [gUp_ne2, gUp_eq2, gNf_ne, hF3, hq3, hF14, hq14, hx14, hF30, hq30, hF47, hq47, hx47]; done)
            | (refine k0 q47 _ ?_ ?_ ?_
               · simp [pMore, Bind.bind, Except.bind, Pure.pure, Except.pure, *]; done
               · intro a j ha hn; simp (disch := omega) only [gUp_ne2, gUp_eq2, gNf_ne, hF3, hq3, hF14, hq14, hx14, hF30, hq30, hF47, hq47, hx47]; done
               · simp (disch := omega) only [gUp_ne2, gUp_eq2, gNf_ne, hF3, hq3, hF14, hq14, hx14, hF30, hq30, hF47, hq47, hx47]; done)
      · refine Gx_if_eq (tgt := 53) dX0_readsSaver_33 (by decide) (fun _ => ?_) (fun hz => absurd hz (by decide))
        refine Gx_null dX0_readsSaver_53 ?_
        refine Gx_areturn dX0_readsSaver_54 rfl ?_
        first
          | (refine k0 q14 _ ?_ ?_ ?_
             · simp [pMore, Bind.bind, Except.bind, Pure.pure, Except.pure, *]; done
             · intro a j ha hn; simp (disch := omega) only [gUp_ne2, gUp_eq2, gNf_ne, hF3, hq3, hF14, hq14, hx14, hF30, hq30]; done
             · simp (disch := omega) only [gUp_ne2, gUp_eq2, gNf_ne, hF3, hq3, hF14, hq14, hx14, hF30, hq30]; done)
          | (refine k0 q47 _ ?_ ?_ ?_
             · simp [pMore, Bind.bind, Except.bind, Pure.pure, Except.pure, *]; done
             · intro a j ha hn; simp (disch := omega) only [gUp_ne2, gUp_eq2, gNf_ne, hF3, hq3, hF14, hq14, hx14, hF30, hq30]; done
             · simp (disch := omega) only [gUp_ne2, gUp_eq2, gNf_ne, hF3, hq3, hF14, hq14, hx14, hF30, hq30]; done)
    · refine Gx_if_ne (tgt := 22) dX0_readsSaver_17 (by decide) (fun hz => absurd hz (by decide)) (fun _ => ?_)
      refine Gx_null dX0_readsSaver_20 ?_
      refine Gx_areturn dX0_readsSaver_21 rfl ?_
      first
        | (refine k0 q0 _ ?_ ?_ ?_
           · simp [pMore, Bind.bind, Except.bind, Pure.pure, Except.pure, *]; done
           · intro a j ha hn; simp (disch := omega) only [gUp_ne2, gUp_eq2, gNf_ne, hF3, hq3, hF14, hq14, hx14]; done
           · simp (disch := omega) only [gUp_ne2, gUp_eq2, gNf_ne, hF3, hq3, hF14, hq14, hx14]; done)
        | (refine k0 q14 _ ?_ ?_ ?_
           · simp [pMore, Bind.bind, Except.bind, Pure.pure, Except.pure, *]; done
           · intro a j ha hn; simp (disch := omega) only [gUp_ne2, gUp_eq2, gNf_ne, hF3, hq3, hF14, hq14, hx14]; done
           · simp (disch := omega) only [gUp_ne2, gUp_eq2, gNf_ne, hF3, hq3, hF14, hq14, hx14]; done)
  · refine Gx_if_eq (tgt := 20) dX0_readsSaver_6 (by decide) (fun _ => ?_) (fun hz => absurd hz (by decide))
    refine Gx_null dX0_readsSaver_20 ?_
    refine Gx_areturn dX0_readsSaver_21 rfl ?_
    first
      | (refine k0 q0 _ ?_ ?_ ?_
         · simp [pMore, Bind.bind, Except.bind, Pure.pure, Except.pure, *]; done
         · intro a j ha hn; simp (disch := omega) only [gUp_ne2, gUp_eq2, gNf_ne, hF3, hq3]; done
         · simp (disch := omega) only [gUp_ne2, gUp_eq2, gNf_ne, hF3, hq3]; done)
      | (refine k0 q14 _ ?_ ?_ ?_
         · simp [pMore, Bind.bind, Except.bind, Pure.pure, Except.pure, *]; done
         · intro a j ha hn; simp (disch := omega) only [gUp_ne2, gUp_eq2, gNf_ne, hF3, hq3]; done
         · simp (disch := omega) only [gUp_ne2, gUp_eq2, gNf_ne, hF3, hq3]; done)
end
