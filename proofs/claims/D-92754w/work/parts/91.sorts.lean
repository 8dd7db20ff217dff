/-! the sorts\' own methods -/
section
variable {Γ : gC} {v : gM} {K : gH} {t : Nat} {Q : gQ}
def aKd (k : Nat) : Int := if k = 3 then 1 else if k = 4 then 3 else if k = 5 then 2 else if k = 6 then 4 else 5
abbrev aIs (k : Nat) (q : Int) : Prop := q = 0 ∨ q = aKd k ∨ (q = 2 ∧ 5 ≤ k)

theorem ct_X3_adds_3 {h : gH} {o n : Int} {w : Int} (hh : h o = (3, n)) (ha : h (v o 0) = (11, 3)) (hw : 0 ≤ w ∧ w ≤ 2) (kq : Q (0, v (v o 0) w) v h t) : Ctr Γ mX3_adds [(2, o), (0, w)] v h t Q := by
  refine Ctr.ofG (ls := [(2, o), (0, w)]) rfl rfl rfl rfl rfl ?_
  refine Gx_aload_n (i := 0) dX3_adds_0 rfl rfl ?_
  refine gf_X3_7_3 dX3_adds_1 rfl hh ?_
  refine Gx_iload_n (i := 1) dX3_adds_4 rfl rfl ?_
  refine Gx_baload dX3_adds_5 ha (by first | omega | (simp (disch := omega) only [w32_id]; omega)) ?_
  refine Gx_ireturn dX3_adds_6 trivial ?_
  exact kq
theorem ct_X3_is_3 {h : gH} {o n : Int} {q : Int} (hh : h o = (3, n)) (k1 : q = 0 → Q (0, 1) v h t) (k0 : ¬ q = 0 → Q (0, 0) v h t) : Ctr Γ mX3_is [(2, o), (0, q)] v h t Q := by
  refine Ctr.ofG (ls := [(2, o), (0, q)]) rfl rfl rfl rfl rfl ?_
  refine Gx_iload_n (i := 1) dX3_is_0 rfl rfl ?_
  refine Gx_if_ne (tgt := 8) dX3_is_1 (by decide) (fun c1 => ?_) (fun c1 => ?_)
  · refine Gx_iconst ⟨by decide, by decide⟩ dX3_is_8 ?_
    refine Gx_ireturn dX3_is_9 (Or.inl rfl) ?_
    first
    | exact k1 (by omega)
    | exact k0 (by omega)
  · refine Gx_iconst ⟨by decide, by decide⟩ dX3_is_4 ?_
    refine Gx_goto (tgt := 9) dX3_is_5 (by decide) ?_
    refine Gx_ireturn dX3_is_9 (Or.inr rfl) ?_
    first
    | exact k1 (by omega)
    | exact k0 (by omega)
theorem ct_X3_adds_4 {h : gH} {o n : Int} {w : Int} (hh : h o = (4, n)) (ha : h (v o 0) = (11, 3)) (hw : 0 ≤ w ∧ w ≤ 2) (kq : Q (0, v (v o 0) w) v h t) : Ctr Γ mX3_adds [(2, o), (0, w)] v h t Q := by
  refine Ctr.ofG (ls := [(2, o), (0, w)]) rfl rfl rfl rfl rfl ?_
  refine Gx_aload_n (i := 0) dX3_adds_0 rfl rfl ?_
  refine gf_X3_7_4 dX3_adds_1 rfl hh ?_
  refine Gx_iload_n (i := 1) dX3_adds_4 rfl rfl ?_
  refine Gx_baload dX3_adds_5 ha (by first | omega | (simp (disch := omega) only [w32_id]; omega)) ?_
  refine Gx_ireturn dX3_adds_6 trivial ?_
  exact kq
theorem ct_X3_stores_4 {h : gH} {o n : Int}  (hh : h o = (4, n)) (kq : Q (0, 1) v h t) : Ctr Γ mX3_stores [(2, o)] v h t Q := by
  refine Ctr.ofG (ls := [(2, o)]) rfl rfl rfl rfl rfl ?_
  refine Gx_iconst ⟨by decide, by decide⟩ dX3_stores_0 ?_
  refine Gx_ireturn dX3_stores_1 (Or.inr rfl) ?_
  exact kq
theorem ct_X3_is_4 {h : gH} {o n : Int} {q : Int} (hh : h o = (4, n)) (k1 : q = 0 → Q (0, 1) v h t) (k0 : ¬ q = 0 → Q (0, 0) v h t) : Ctr Γ mX3_is [(2, o), (0, q)] v h t Q := by
  refine Ctr.ofG (ls := [(2, o), (0, q)]) rfl rfl rfl rfl rfl ?_
  refine Gx_iload_n (i := 1) dX3_is_0 rfl rfl ?_
  refine Gx_if_ne (tgt := 8) dX3_is_1 (by decide) (fun c1 => ?_) (fun c1 => ?_)
  · refine Gx_iconst ⟨by decide, by decide⟩ dX3_is_8 ?_
    refine Gx_ireturn dX3_is_9 (Or.inl rfl) ?_
    first
    | exact k1 (by omega)
    | exact k0 (by omega)
  · refine Gx_iconst ⟨by decide, by decide⟩ dX3_is_4 ?_
    refine Gx_goto (tgt := 9) dX3_is_5 (by decide) ?_
    refine Gx_ireturn dX3_is_9 (Or.inr rfl) ?_
    first
    | exact k1 (by omega)
    | exact k0 (by omega)
theorem ct_X3_adds_5 {h : gH} {o n : Int} {w : Int} (hh : h o = (5, n)) (ha : h (v o 0) = (11, 3)) (hw : 0 ≤ w ∧ w ≤ 2) (kq : Q (0, v (v o 0) w) v h t) : Ctr Γ mX3_adds [(2, o), (0, w)] v h t Q := by
  refine Ctr.ofG (ls := [(2, o), (0, w)]) rfl rfl rfl rfl rfl ?_
  refine Gx_aload_n (i := 0) dX3_adds_0 rfl rfl ?_
  refine gf_X3_7_5 dX3_adds_1 rfl hh ?_
  refine Gx_iload_n (i := 1) dX3_adds_4 rfl rfl ?_
  refine Gx_baload dX3_adds_5 ha (by first | omega | (simp (disch := omega) only [w32_id]; omega)) ?_
  refine Gx_ireturn dX3_adds_6 trivial ?_
  exact kq
theorem ct_X3_stores_5 {h : gH} {o n : Int}  (hh : h o = (5, n)) (kq : Q (0, 1) v h t) : Ctr Γ mX3_stores [(2, o)] v h t Q := by
  refine Ctr.ofG (ls := [(2, o)]) rfl rfl rfl rfl rfl ?_
  refine Gx_iconst ⟨by decide, by decide⟩ dX3_stores_0 ?_
  refine Gx_ireturn dX3_stores_1 (Or.inr rfl) ?_
  exact kq
theorem ct_X3_is_5 {h : gH} {o n : Int} {q : Int} (hh : h o = (5, n)) (k1 : q = 0 → Q (0, 1) v h t) (k0 : ¬ q = 0 → Q (0, 0) v h t) : Ctr Γ mX3_is [(2, o), (0, q)] v h t Q := by
  refine Ctr.ofG (ls := [(2, o), (0, q)]) rfl rfl rfl rfl rfl ?_
  refine Gx_iload_n (i := 1) dX3_is_0 rfl rfl ?_
  refine Gx_if_ne (tgt := 8) dX3_is_1 (by decide) (fun c1 => ?_) (fun c1 => ?_)
  · refine Gx_iconst ⟨by decide, by decide⟩ dX3_is_8 ?_
    refine Gx_ireturn dX3_is_9 (Or.inl rfl) ?_
    first
    | exact k1 (by omega)
    | exact k0 (by omega)
  · refine Gx_iconst ⟨by decide, by decide⟩ dX3_is_4 ?_
    refine Gx_goto (tgt := 9) dX3_is_5 (by decide) ?_
    refine Gx_ireturn dX3_is_9 (Or.inr rfl) ?_
    first
    | exact k1 (by omega)
    | exact k0 (by omega)
theorem ct_X3_adds_6 {h : gH} {o n : Int} {w : Int} (hh : h o = (6, n)) (ha : h (v o 0) = (11, 3)) (hw : 0 ≤ w ∧ w ≤ 2) (kq : Q (0, v (v o 0) w) v h t) : Ctr Γ mX3_adds [(2, o), (0, w)] v h t Q := by
  refine Ctr.ofG (ls := [(2, o), (0, w)]) rfl rfl rfl rfl rfl ?_
  refine Gx_aload_n (i := 0) dX3_adds_0 rfl rfl ?_
  refine gf_X3_7_6 dX3_adds_1 rfl hh ?_
  refine Gx_iload_n (i := 1) dX3_adds_4 rfl rfl ?_
  refine Gx_baload dX3_adds_5 ha (by first | omega | (simp (disch := omega) only [w32_id]; omega)) ?_
  refine Gx_ireturn dX3_adds_6 trivial ?_
  exact kq
theorem ct_X3_stores_6 {h : gH} {o n : Int}  (hh : h o = (6, n)) (kq : Q (0, 1) v h t) : Ctr Γ mX3_stores [(2, o)] v h t Q := by
  refine Ctr.ofG (ls := [(2, o)]) rfl rfl rfl rfl rfl ?_
  refine Gx_iconst ⟨by decide, by decide⟩ dX3_stores_0 ?_
  refine Gx_ireturn dX3_stores_1 (Or.inr rfl) ?_
  exact kq
theorem ct_X3_is_6 {h : gH} {o n : Int} {q : Int} (hh : h o = (6, n)) (k1 : q = 0 → Q (0, 1) v h t) (k0 : ¬ q = 0 → Q (0, 0) v h t) : Ctr Γ mX3_is [(2, o), (0, q)] v h t Q := by
  refine Ctr.ofG (ls := [(2, o), (0, q)]) rfl rfl rfl rfl rfl ?_
  refine Gx_iload_n (i := 1) dX3_is_0 rfl rfl ?_
  refine Gx_if_ne (tgt := 8) dX3_is_1 (by decide) (fun c1 => ?_) (fun c1 => ?_)
  · refine Gx_iconst ⟨by decide, by decide⟩ dX3_is_8 ?_
    refine Gx_ireturn dX3_is_9 (Or.inl rfl) ?_
    first
    | exact k1 (by omega)
    | exact k0 (by omega)
  · refine Gx_iconst ⟨by decide, by decide⟩ dX3_is_4 ?_
    refine Gx_goto (tgt := 9) dX3_is_5 (by decide) ?_
    refine Gx_ireturn dX3_is_9 (Or.inr rfl) ?_
    first
    | exact k1 (by omega)
    | exact k0 (by omega)
theorem ct_X3_adds_7 {h : gH} {o n : Int} {w : Int} (hh : h o = (7, n)) (ha : h (v o 0) = (11, 3)) (hw : 0 ≤ w ∧ w ≤ 2) (kq : Q (0, v (v o 0) w) v h t) : Ctr Γ mX3_adds [(2, o), (0, w)] v h t Q := by
  refine Ctr.ofG (ls := [(2, o), (0, w)]) rfl rfl rfl rfl rfl ?_
  refine Gx_aload_n (i := 0) dX3_adds_0 rfl rfl ?_
  refine gf_X3_7_7 dX3_adds_1 rfl hh ?_
  refine Gx_iload_n (i := 1) dX3_adds_4 rfl rfl ?_
  refine Gx_baload dX3_adds_5 ha (by first | omega | (simp (disch := omega) only [w32_id]; omega)) ?_
  refine Gx_ireturn dX3_adds_6 trivial ?_
  exact kq
theorem ct_X3_stores_7 {h : gH} {o n : Int}  (hh : h o = (7, n)) (kq : Q (0, 1) v h t) : Ctr Γ mX3_stores [(2, o)] v h t Q := by
  refine Ctr.ofG (ls := [(2, o)]) rfl rfl rfl rfl rfl ?_
  refine Gx_iconst ⟨by decide, by decide⟩ dX3_stores_0 ?_
  refine Gx_ireturn dX3_stores_1 (Or.inr rfl) ?_
  exact kq
theorem ct_X3_is_7 {h : gH} {o n : Int} {q : Int} (hh : h o = (7, n)) (k1 : q = 0 → Q (0, 1) v h t) (k0 : ¬ q = 0 → Q (0, 0) v h t) : Ctr Γ mX3_is [(2, o), (0, q)] v h t Q := by
  refine Ctr.ofG (ls := [(2, o), (0, q)]) rfl rfl rfl rfl rfl ?_
  refine Gx_iload_n (i := 1) dX3_is_0 rfl rfl ?_
  refine Gx_if_ne (tgt := 8) dX3_is_1 (by decide) (fun c1 => ?_) (fun c1 => ?_)
  · refine Gx_iconst ⟨by decide, by decide⟩ dX3_is_8 ?_
    refine Gx_ireturn dX3_is_9 (Or.inl rfl) ?_
    first
    | exact k1 (by omega)
    | exact k0 (by omega)
  · refine Gx_iconst ⟨by decide, by decide⟩ dX3_is_4 ?_
    refine Gx_goto (tgt := 9) dX3_is_5 (by decide) ?_
    refine Gx_ireturn dX3_is_9 (Or.inr rfl) ?_
    first
    | exact k1 (by omega)
    | exact k0 (by omega)
theorem ct_X4_stores_3 {h : gH} {o n : Int}  (hh : h o = (3, n)) (kq : Q (0, 0) v h t) : Ctr Γ mX4_stores [(2, o)] v h t Q := by
  refine Ctr.ofG (ls := [(2, o)]) rfl rfl rfl rfl rfl ?_
  refine Gx_iconst ⟨by decide, by decide⟩ dX4_stores_0 ?_
  refine Gx_ireturn dX4_stores_1 (Or.inl rfl) ?_
  exact kq
theorem ct_X4_kind_3 {h : gH} {o n : Int}  (hh : h o = (3, n)) (kq : Q (0, aKd 3) v h t) : Ctr Γ mX4_kind [(2, o)] v h t Q := by
  refine Ctr.ofG (ls := [(2, o)]) rfl rfl rfl rfl rfl ?_
  refine Gx_iconst ⟨by decide, by decide⟩ dX4_kind_0 ?_
  refine Gx_ireturn dX4_kind_1 trivial ?_
  exact kq
theorem ct_X5_kind_4 {h : gH} {o n : Int}  (hh : h o = (4, n)) (kq : Q (0, aKd 4) v h t) : Ctr Γ mX5_kind [(2, o)] v h t Q := by
  refine Ctr.ofG (ls := [(2, o)]) rfl rfl rfl rfl rfl ?_
  refine Gx_iconst ⟨by decide, by decide⟩ dX5_kind_0 ?_
  refine Gx_ireturn dX5_kind_1 trivial ?_
  exact kq
theorem ct_X6_kind_5 {h : gH} {o n : Int}  (hh : h o = (5, n)) (kq : Q (0, aKd 5) v h t) : Ctr Γ mX6_kind [(2, o)] v h t Q := by
  refine Ctr.ofG (ls := [(2, o)]) rfl rfl rfl rfl rfl ?_
  refine Gx_iconst ⟨by decide, by decide⟩ dX6_kind_0 ?_
  refine Gx_ireturn dX6_kind_1 trivial ?_
  exact kq
theorem ct_X7_kind_6 {h : gH} {o n : Int}  (hh : h o = (6, n)) (kq : Q (0, aKd 6) v h t) : Ctr Γ mX7_kind [(2, o)] v h t Q := by
  refine Ctr.ofG (ls := [(2, o)]) rfl rfl rfl rfl rfl ?_
  refine Gx_iconst ⟨by decide, by decide⟩ dX7_kind_0 ?_
  refine Gx_ireturn dX7_kind_1 trivial ?_
  exact kq
theorem ct_X8_kind_7 {h : gH} {o n : Int}  (hh : h o = (7, n)) (kq : Q (0, aKd 7) v h t) : Ctr Γ mX8_kind [(2, o)] v h t Q := by
  refine Ctr.ofG (ls := [(2, o)]) rfl rfl rfl rfl rfl ?_
  refine Gx_iconst ⟨by decide, by decide⟩ dX8_kind_0 ?_
  refine Gx_ireturn dX8_kind_1 trivial ?_
  exact kq
theorem ct_X4_is_3 {h : gH} {o n : Int} {q : Int} (hh : h o = (3, n)) (k1 : q = 0 ∨ q = 1 → Q (0, 1) v h t) (k0 : ¬ (q = 0 ∨ q = 1) → Q (0, 0) v h t) : Ctr Γ mX4_is [(2, o), (0, q)] v h t Q := by
  refine Ctr.ofG (ls := [(2, o), (0, q)]) rfl rfl rfl rfl rfl ?_
  refine Gx_iload_n (i := 1) dX4_is_0 rfl rfl ?_
  refine Gx_iconst ⟨by decide, by decide⟩ dX4_is_1 ?_
  refine Gx_icmp_eq (tgt := 13) dX4_is_2 (by decide) (fun c2 => ?_) (fun c2 => ?_)
  · refine Gx_iconst ⟨by decide, by decide⟩ dX4_is_13 ?_
    refine Gx_goto (tgt := 18) dX4_is_14 (by decide) ?_
    refine Gx_ireturn dX4_is_18 (Or.inr rfl) ?_
    first
    | exact k1 (by omega)
    | exact k0 (by omega)
  · refine Gx_aload_n (i := 0) dX4_is_5 rfl rfl ?_
    refine Gx_iload_n (i := 1) dX4_is_6 rfl rfl ?_
    refine cs_X4_9_3 dX4_is_7 rfl hh ⟨(Nat.le_of_ble_eq_true rfl), (Nat.le_of_ble_eq_true rfl)⟩ rfl ?_
    refine ct_X3_is_3 hh (fun c7 => ?_) (fun c7 => ?_)
    · refine Gx_if_eq (tgt := 17) dX4_is_10 (by decide) (fun hz => absurd hz (by decide)) (fun _ => ?_)
      refine Gx_iconst ⟨by decide, by decide⟩ dX4_is_13 ?_
      refine Gx_goto (tgt := 18) dX4_is_14 (by decide) ?_
      refine Gx_ireturn dX4_is_18 (Or.inr rfl) ?_
      first
      | exact k1 (by omega)
      | exact k0 (by omega)
    · refine Gx_if_eq (tgt := 17) dX4_is_10 (by decide) (fun _ => ?_) (fun hz => absurd hz (by decide))
      refine Gx_iconst ⟨by decide, by decide⟩ dX4_is_17 ?_
      refine Gx_ireturn dX4_is_18 (Or.inl rfl) ?_
      first
      | exact k1 (by omega)
      | exact k0 (by omega)
theorem ct_X5_is_4 {h : gH} {o n : Int} {q : Int} (hh : h o = (4, n)) (k1 : q = 0 ∨ q = 3 → Q (0, 1) v h t) (k0 : ¬ (q = 0 ∨ q = 3) → Q (0, 0) v h t) : Ctr Γ mX5_is [(2, o), (0, q)] v h t Q := by
  refine Ctr.ofG (ls := [(2, o), (0, q)]) rfl rfl rfl rfl rfl ?_
  refine Gx_iload_n (i := 1) dX5_is_0 rfl rfl ?_
  refine Gx_iconst ⟨by decide, by decide⟩ dX5_is_1 ?_
  refine Gx_icmp_eq (tgt := 13) dX5_is_2 (by decide) (fun c2 => ?_) (fun c2 => ?_)
  · refine Gx_iconst ⟨by decide, by decide⟩ dX5_is_13 ?_
    refine Gx_goto (tgt := 18) dX5_is_14 (by decide) ?_
    refine Gx_ireturn dX5_is_18 (Or.inr rfl) ?_
    first
    | exact k1 (by omega)
    | exact k0 (by omega)
  · refine Gx_aload_n (i := 0) dX5_is_5 rfl rfl ?_
    refine Gx_iload_n (i := 1) dX5_is_6 rfl rfl ?_
    refine cs_X5_18_4 dX5_is_7 rfl hh ⟨(Nat.le_of_ble_eq_true rfl), (Nat.le_of_ble_eq_true rfl)⟩ rfl ?_
    refine ct_X3_is_4 hh (fun c7 => ?_) (fun c7 => ?_)
    · refine Gx_if_eq (tgt := 17) dX5_is_10 (by decide) (fun hz => absurd hz (by decide)) (fun _ => ?_)
      refine Gx_iconst ⟨by decide, by decide⟩ dX5_is_13 ?_
      refine Gx_goto (tgt := 18) dX5_is_14 (by decide) ?_
      refine Gx_ireturn dX5_is_18 (Or.inr rfl) ?_
      first
      | exact k1 (by omega)
      | exact k0 (by omega)
    · refine Gx_if_eq (tgt := 17) dX5_is_10 (by decide) (fun _ => ?_) (fun hz => absurd hz (by decide))
      refine Gx_iconst ⟨by decide, by decide⟩ dX5_is_17 ?_
      refine Gx_ireturn dX5_is_18 (Or.inl rfl) ?_
      first
      | exact k1 (by omega)
      | exact k0 (by omega)
theorem ct_X6_is_5 {h : gH} {o n : Int} {q : Int} (hh : h o = (5, n)) (k1 : q = 0 ∨ q = 2 → Q (0, 1) v h t) (k0 : ¬ (q = 0 ∨ q = 2) → Q (0, 0) v h t) : Ctr Γ mX6_is [(2, o), (0, q)] v h t Q := by
  refine Ctr.ofG (ls := [(2, o), (0, q)]) rfl rfl rfl rfl rfl ?_
  refine Gx_iload_n (i := 1) dX6_is_0 rfl rfl ?_
  refine Gx_iconst ⟨by decide, by decide⟩ dX6_is_1 ?_
  refine Gx_icmp_eq (tgt := 13) dX6_is_2 (by decide) (fun c2 => ?_) (fun c2 => ?_)
  · refine Gx_iconst ⟨by decide, by decide⟩ dX6_is_13 ?_
    refine Gx_goto (tgt := 18) dX6_is_14 (by decide) ?_
    refine Gx_ireturn dX6_is_18 (Or.inr rfl) ?_
    first
    | exact k1 (by omega)
    | exact k0 (by omega)
  · refine Gx_aload_n (i := 0) dX6_is_5 rfl rfl ?_
    refine Gx_iload_n (i := 1) dX6_is_6 rfl rfl ?_
    refine cs_X6_18_5 dX6_is_7 rfl hh ⟨(Nat.le_of_ble_eq_true rfl), (Nat.le_of_ble_eq_true rfl)⟩ rfl ?_
    refine ct_X3_is_5 hh (fun c7 => ?_) (fun c7 => ?_)
    · refine Gx_if_eq (tgt := 17) dX6_is_10 (by decide) (fun hz => absurd hz (by decide)) (fun _ => ?_)
      refine Gx_iconst ⟨by decide, by decide⟩ dX6_is_13 ?_
      refine Gx_goto (tgt := 18) dX6_is_14 (by decide) ?_
      refine Gx_ireturn dX6_is_18 (Or.inr rfl) ?_
      first
      | exact k1 (by omega)
      | exact k0 (by omega)
    · refine Gx_if_eq (tgt := 17) dX6_is_10 (by decide) (fun _ => ?_) (fun hz => absurd hz (by decide))
      refine Gx_iconst ⟨by decide, by decide⟩ dX6_is_17 ?_
      refine Gx_ireturn dX6_is_18 (Or.inl rfl) ?_
      first
      | exact k1 (by omega)
      | exact k0 (by omega)
theorem ct_X6_is_6 {h : gH} {o n : Int} {q : Int} (hh : h o = (6, n)) (k1 : q = 0 ∨ q = 2 → Q (0, 1) v h t) (k0 : ¬ (q = 0 ∨ q = 2) → Q (0, 0) v h t) : Ctr Γ mX6_is [(2, o), (0, q)] v h t Q := by
  refine Ctr.ofG (ls := [(2, o), (0, q)]) rfl rfl rfl rfl rfl ?_
  refine Gx_iload_n (i := 1) dX6_is_0 rfl rfl ?_
  refine Gx_iconst ⟨by decide, by decide⟩ dX6_is_1 ?_
  refine Gx_icmp_eq (tgt := 13) dX6_is_2 (by decide) (fun c2 => ?_) (fun c2 => ?_)
  · refine Gx_iconst ⟨by decide, by decide⟩ dX6_is_13 ?_
    refine Gx_goto (tgt := 18) dX6_is_14 (by decide) ?_
    refine Gx_ireturn dX6_is_18 (Or.inr rfl) ?_
    first
    | exact k1 (by omega)
    | exact k0 (by omega)
  · refine Gx_aload_n (i := 0) dX6_is_5 rfl rfl ?_
    refine Gx_iload_n (i := 1) dX6_is_6 rfl rfl ?_
    refine cs_X6_18_6 dX6_is_7 rfl hh ⟨(Nat.le_of_ble_eq_true rfl), (Nat.le_of_ble_eq_true rfl)⟩ rfl ?_
    refine ct_X3_is_6 hh (fun c7 => ?_) (fun c7 => ?_)
    · refine Gx_if_eq (tgt := 17) dX6_is_10 (by decide) (fun hz => absurd hz (by decide)) (fun _ => ?_)
      refine Gx_iconst ⟨by decide, by decide⟩ dX6_is_13 ?_
      refine Gx_goto (tgt := 18) dX6_is_14 (by decide) ?_
      refine Gx_ireturn dX6_is_18 (Or.inr rfl) ?_
      first
      | exact k1 (by omega)
      | exact k0 (by omega)
    · refine Gx_if_eq (tgt := 17) dX6_is_10 (by decide) (fun _ => ?_) (fun hz => absurd hz (by decide))
      refine Gx_iconst ⟨by decide, by decide⟩ dX6_is_17 ?_
      refine Gx_ireturn dX6_is_18 (Or.inl rfl) ?_
      first
      | exact k1 (by omega)
      | exact k0 (by omega)
theorem ct_X6_is_7 {h : gH} {o n : Int} {q : Int} (hh : h o = (7, n)) (k1 : q = 0 ∨ q = 2 → Q (0, 1) v h t) (k0 : ¬ (q = 0 ∨ q = 2) → Q (0, 0) v h t) : Ctr Γ mX6_is [(2, o), (0, q)] v h t Q := by
  refine Ctr.ofG (ls := [(2, o), (0, q)]) rfl rfl rfl rfl rfl ?_
  refine Gx_iload_n (i := 1) dX6_is_0 rfl rfl ?_
  refine Gx_iconst ⟨by decide, by decide⟩ dX6_is_1 ?_
  refine Gx_icmp_eq (tgt := 13) dX6_is_2 (by decide) (fun c2 => ?_) (fun c2 => ?_)
  · refine Gx_iconst ⟨by decide, by decide⟩ dX6_is_13 ?_
    refine Gx_goto (tgt := 18) dX6_is_14 (by decide) ?_
    refine Gx_ireturn dX6_is_18 (Or.inr rfl) ?_
    first
    | exact k1 (by omega)
    | exact k0 (by omega)
  · refine Gx_aload_n (i := 0) dX6_is_5 rfl rfl ?_
    refine Gx_iload_n (i := 1) dX6_is_6 rfl rfl ?_
    refine cs_X6_18_7 dX6_is_7 rfl hh ⟨(Nat.le_of_ble_eq_true rfl), (Nat.le_of_ble_eq_true rfl)⟩ rfl ?_
    refine ct_X3_is_7 hh (fun c7 => ?_) (fun c7 => ?_)
    · refine Gx_if_eq (tgt := 17) dX6_is_10 (by decide) (fun hz => absurd hz (by decide)) (fun _ => ?_)
      refine Gx_iconst ⟨by decide, by decide⟩ dX6_is_13 ?_
      refine Gx_goto (tgt := 18) dX6_is_14 (by decide) ?_
      refine Gx_ireturn dX6_is_18 (Or.inr rfl) ?_
      first
      | exact k1 (by omega)
      | exact k0 (by omega)
    · refine Gx_if_eq (tgt := 17) dX6_is_10 (by decide) (fun _ => ?_) (fun hz => absurd hz (by decide))
      refine Gx_iconst ⟨by decide, by decide⟩ dX6_is_17 ?_
      refine Gx_ireturn dX6_is_18 (Or.inl rfl) ?_
      first
      | exact k1 (by omega)
      | exact k0 (by omega)
theorem ct_X7_is_6 {h : gH} {o n : Int} {q : Int} (hh : h o = (6, n)) (k1 : q = 0 ∨ q = 2 ∨ q = 4 → Q (0, 1) v h t) (k0 : ¬ (q = 0 ∨ q = 2 ∨ q = 4) → Q (0, 0) v h t) : Ctr Γ mX7_is [(2, o), (0, q)] v h t Q := by
  refine Ctr.ofG (ls := [(2, o), (0, q)]) rfl rfl rfl rfl rfl ?_
  refine Gx_iload_n (i := 1) dX7_is_0 rfl rfl ?_
  refine Gx_iconst ⟨by decide, by decide⟩ dX7_is_1 ?_
  refine Gx_icmp_eq (tgt := 13) dX7_is_2 (by decide) (fun c2 => ?_) (fun c2 => ?_)
  · refine Gx_iconst ⟨by decide, by decide⟩ dX7_is_13 ?_
    refine Gx_goto (tgt := 18) dX7_is_14 (by decide) ?_
    refine Gx_ireturn dX7_is_18 (Or.inr rfl) ?_
    first
    | exact k1 (by omega)
    | exact k0 (by omega)
  · refine Gx_aload_n (i := 0) dX7_is_5 rfl rfl ?_
    refine Gx_iload_n (i := 1) dX7_is_6 rfl rfl ?_
    refine cs_X7_15_6 dX7_is_7 rfl hh ⟨(Nat.le_of_ble_eq_true rfl), (Nat.le_of_ble_eq_true rfl)⟩ rfl ?_
    refine ct_X6_is_6 hh (fun c7 => ?_) (fun c7 => ?_)
    · refine Gx_if_eq (tgt := 17) dX7_is_10 (by decide) (fun hz => absurd hz (by decide)) (fun _ => ?_)
      refine Gx_iconst ⟨by decide, by decide⟩ dX7_is_13 ?_
      refine Gx_goto (tgt := 18) dX7_is_14 (by decide) ?_
      refine Gx_ireturn dX7_is_18 (Or.inr rfl) ?_
      first
      | exact k1 (by omega)
      | exact k0 (by omega)
    · refine Gx_if_eq (tgt := 17) dX7_is_10 (by decide) (fun _ => ?_) (fun hz => absurd hz (by decide))
      refine Gx_iconst ⟨by decide, by decide⟩ dX7_is_17 ?_
      refine Gx_ireturn dX7_is_18 (Or.inl rfl) ?_
      first
      | exact k1 (by omega)
      | exact k0 (by omega)
theorem ct_X8_is_7 {h : gH} {o n : Int} {q : Int} (hh : h o = (7, n)) (k1 : q = 0 ∨ q = 2 ∨ q = 5 → Q (0, 1) v h t) (k0 : ¬ (q = 0 ∨ q = 2 ∨ q = 5) → Q (0, 0) v h t) : Ctr Γ mX8_is [(2, o), (0, q)] v h t Q := by
  refine Ctr.ofG (ls := [(2, o), (0, q)]) rfl rfl rfl rfl rfl ?_
  refine Gx_iload_n (i := 1) dX8_is_0 rfl rfl ?_
  refine Gx_iconst ⟨by decide, by decide⟩ dX8_is_1 ?_
  refine Gx_icmp_eq (tgt := 13) dX8_is_2 (by decide) (fun c2 => ?_) (fun c2 => ?_)
  · refine Gx_iconst ⟨by decide, by decide⟩ dX8_is_13 ?_
    refine Gx_goto (tgt := 18) dX8_is_14 (by decide) ?_
    refine Gx_ireturn dX8_is_18 (Or.inr rfl) ?_
    first
    | exact k1 (by omega)
    | exact k0 (by omega)
  · refine Gx_aload_n (i := 0) dX8_is_5 rfl rfl ?_
    refine Gx_iload_n (i := 1) dX8_is_6 rfl rfl ?_
    refine cs_X8_15_7 dX8_is_7 rfl hh ⟨(Nat.le_of_ble_eq_true rfl), (Nat.le_of_ble_eq_true rfl)⟩ rfl ?_
    refine ct_X6_is_7 hh (fun c7 => ?_) (fun c7 => ?_)
    · refine Gx_if_eq (tgt := 17) dX8_is_10 (by decide) (fun hz => absurd hz (by decide)) (fun _ => ?_)
      refine Gx_iconst ⟨by decide, by decide⟩ dX8_is_13 ?_
      refine Gx_goto (tgt := 18) dX8_is_14 (by decide) ?_
      refine Gx_ireturn dX8_is_18 (Or.inr rfl) ?_
      first
      | exact k1 (by omega)
      | exact k0 (by omega)
    · refine Gx_if_eq (tgt := 17) dX8_is_10 (by decide) (fun _ => ?_) (fun hz => absurd hz (by decide))
      refine Gx_iconst ⟨by decide, by decide⟩ dX8_is_17 ?_
      refine Gx_ireturn dX8_is_18 (Or.inl rfl) ?_
      first
      | exact k1 (by omega)
      | exact k0 (by omega)
theorem ct_X6_saves_5 {h : gH} {o n : Int}  (hh : h o = (5, n)) (hb : (0 ≤ v o 1 ∧ v o 1 ≤ 60) ∧ 0 ≤ v o 2 ∧ v o 2 ≤ 60) (kq : Q (0, 100 * v o 1 + v o 2) v h t) : Ctr Γ mX6_saves [(2, o)] v h t Q := by
  refine Ctr.ofG (ls := [(2, o)]) rfl rfl rfl rfl rfl ?_
  refine Gx_bipush dX6_saves_0 ⟨by decide, by decide⟩ ?_
  refine Gx_aload_n (i := 0) dX6_saves_2 rfl rfl ?_
  refine gf_X6_9_5 dX6_saves_3 rfl hh ?_
  refine Gx_imul dX6_saves_6 ?_
  try simp (disch := omega) only [w32_id]
  refine Gx_aload_n (i := 0) dX6_saves_7 rfl rfl ?_
  refine gf_X6_15_5 dX6_saves_8 rfl hh ?_
  refine Gx_iadd dX6_saves_11 ?_
  try simp (disch := omega) only [w32_id]
  refine Gx_ireturn dX6_saves_12 trivial ?_
  exact kq
theorem ct_X6_saves_6 {h : gH} {o n : Int}  (hh : h o = (6, n)) (hb : (0 ≤ v o 1 ∧ v o 1 ≤ 60) ∧ 0 ≤ v o 2 ∧ v o 2 ≤ 60) (kq : Q (0, 100 * v o 1 + v o 2) v h t) : Ctr Γ mX6_saves [(2, o)] v h t Q := by
  refine Ctr.ofG (ls := [(2, o)]) rfl rfl rfl rfl rfl ?_
  refine Gx_bipush dX6_saves_0 ⟨by decide, by decide⟩ ?_
  refine Gx_aload_n (i := 0) dX6_saves_2 rfl rfl ?_
  refine gf_X6_9_6 dX6_saves_3 rfl hh ?_
  refine Gx_imul dX6_saves_6 ?_
  try simp (disch := omega) only [w32_id]
  refine Gx_aload_n (i := 0) dX6_saves_7 rfl rfl ?_
  refine gf_X6_15_6 dX6_saves_8 rfl hh ?_
  refine Gx_iadd dX6_saves_11 ?_
  try simp (disch := omega) only [w32_id]
  refine Gx_ireturn dX6_saves_12 trivial ?_
  exact kq
theorem ct_X6_saves_7 {h : gH} {o n : Int}  (hh : h o = (7, n)) (hb : (0 ≤ v o 1 ∧ v o 1 ≤ 60) ∧ 0 ≤ v o 2 ∧ v o 2 ≤ 60) (kq : Q (0, 100 * v o 1 + v o 2) v h t) : Ctr Γ mX6_saves [(2, o)] v h t Q := by
  refine Ctr.ofG (ls := [(2, o)]) rfl rfl rfl rfl rfl ?_
  refine Gx_bipush dX6_saves_0 ⟨by decide, by decide⟩ ?_
  refine Gx_aload_n (i := 0) dX6_saves_2 rfl rfl ?_
  refine gf_X6_9_7 dX6_saves_3 rfl hh ?_
  refine Gx_imul dX6_saves_6 ?_
  try simp (disch := omega) only [w32_id]
  refine Gx_aload_n (i := 0) dX6_saves_7 rfl rfl ?_
  refine gf_X6_15_7 dX6_saves_8 rfl hh ?_
  refine Gx_iadd dX6_saves_11 ?_
  try simp (disch := omega) only [w32_id]
  refine Gx_ireturn dX6_saves_12 trivial ?_
  exact kq
theorem ct_X6_tells_5 {h : gH} {o n : Int}  (hh : h o = (5, n)) (hb : (0 ≤ v o 1 ∧ v o 1 ≤ 60) ∧ 0 ≤ v o 2 ∧ v o 2 ≤ 60) (kq : Q (0, 100 * v o 1 + v o 2) v h t) : Ctr Γ mX6_tells [(2, o)] v h t Q := by
  refine Ctr.ofG (ls := [(2, o)]) rfl rfl rfl rfl rfl ?_
  refine Gx_aload_n (i := 0) dX6_tells_0 rfl rfl ?_
  refine cv_X6_22_5 dX6_tells_1 rfl hh ⟨(Nat.le_of_ble_eq_true rfl), (Nat.le_of_ble_eq_true rfl)⟩ rfl ?_
  refine ct_X6_saves_5 hh hb ?_
  refine Gx_ireturn dX6_tells_4 trivial ?_
  exact kq
theorem ct_X5_tells_4 {h : gH} {o n : Int}  (hh : h o = (4, n)) (hb : (0 ≤ v o 1 ∧ v o 1 ≤ 60) ∧ 0 ≤ v o 2 ∧ v o 2 ≤ 60) (kq : Q (0, 100 * v o 1 + v o 2) v h t) : Ctr Γ mX5_tells [(2, o)] v h t Q := by
  refine Ctr.ofG (ls := [(2, o)]) rfl rfl rfl rfl rfl ?_
  refine Gx_bipush dX5_tells_0 ⟨by decide, by decide⟩ ?_
  refine Gx_aload_n (i := 0) dX5_tells_2 rfl rfl ?_
  refine gf_X5_9_4 dX5_tells_3 rfl hh ?_
  refine Gx_imul dX5_tells_6 ?_
  try simp (disch := omega) only [w32_id]
  refine Gx_aload_n (i := 0) dX5_tells_7 rfl rfl ?_
  refine gf_X5_15_4 dX5_tells_8 rfl hh ?_
  refine Gx_iadd dX5_tells_11 ?_
  try simp (disch := omega) only [w32_id]
  refine Gx_ireturn dX5_tells_12 trivial ?_
  exact kq
theorem ct_X7_tells_6 {h : gH} {o n : Int}  (hh : h o = (6, n)) (kq : Q (0, v o 3) v h t) : Ctr Γ mX7_tells [(2, o)] v h t Q := by
  refine Ctr.ofG (ls := [(2, o)]) rfl rfl rfl rfl rfl ?_
  refine Gx_aload_n (i := 0) dX7_tells_0 rfl rfl ?_
  refine gf_X7_9_6 dX7_tells_1 rfl hh ?_
  refine Gx_ireturn dX7_tells_4 trivial ?_
  exact kq
theorem ct_X8_tells_7 {h : gH} {o n : Int}  (hh : h o = (7, n)) (kq : Q (0, v o 3) v h t) : Ctr Γ mX8_tells [(2, o)] v h t Q := by
  refine Ctr.ofG (ls := [(2, o)]) rfl rfl rfl rfl rfl ?_
  refine Gx_aload_n (i := 0) dX8_tells_0 rfl rfl ?_
  refine gf_X8_9_7 dX8_tells_1 rfl hh ?_
  refine Gx_ireturn dX8_tells_4 trivial ?_
  exact kq
theorem ct_X4_tells_3 {h : gH} {o n : Int}  (hh : h o = (3, n)) (ha : h (v o 0) = (11, 3)) (hb : ∀ j, 0 ≤ j → j ≤ 2 → 0 ≤ v (v o 0) j ∧ v (v o 0) j ≤ 9) (kq : Q (0, v (v o 0) 0 + v (v o 0) 1 + v (v o 0) 2) v h t) : Ctr Γ mX4_tells [(2, o)] v h t Q := by
  refine Ctr.ofG (ls := [(2, o)]) rfl rfl rfl rfl rfl ?_
  have b0 := hb 0 (by omega) (by omega)
  have b1 := hb 1 (by omega) (by omega)
  have b2 := hb 2 (by omega) (by omega)
  refine Gx_aload_n (i := 0) dX4_tells_0 rfl rfl ?_
  refine Gx_iconst ⟨by decide, by decide⟩ dX4_tells_1 ?_
  refine cv_X4_13_3 dX4_tells_2 rfl hh ⟨(Nat.le_of_ble_eq_true rfl), (Nat.le_of_ble_eq_true rfl)⟩ rfl ?_
  refine ct_X3_adds_3 hh ha ⟨by decide, by decide⟩ ?_
  refine Gx_aload_n (i := 0) dX4_tells_5 rfl rfl ?_
  refine Gx_iconst ⟨by decide, by decide⟩ dX4_tells_6 ?_
  refine cv_X4_13_3 dX4_tells_7 rfl hh ⟨(Nat.le_of_ble_eq_true rfl), (Nat.le_of_ble_eq_true rfl)⟩ rfl ?_
  refine ct_X3_adds_3 hh ha ⟨by decide, by decide⟩ ?_
  refine Gx_iadd dX4_tells_10 ?_
  try simp (disch := omega) only [w32_id]
  refine Gx_aload_n (i := 0) dX4_tells_11 rfl rfl ?_
  refine Gx_iconst ⟨by decide, by decide⟩ dX4_tells_12 ?_
  refine cv_X4_13_3 dX4_tells_13 rfl hh ⟨(Nat.le_of_ble_eq_true rfl), (Nat.le_of_ble_eq_true rfl)⟩ rfl ?_
  refine ct_X3_adds_3 hh ha ⟨by decide, by decide⟩ ?_
  refine Gx_iadd dX4_tells_16 ?_
  try simp (disch := omega) only [w32_id]
  refine Gx_ireturn dX4_tells_17 trivial ?_
  exact kq
theorem ct_X4_blooms_3 {h : gH} {o n : Int} {g w y : Int} (hh : h o = (3, n)) (ha : h (v o 0) = (11, 3)) (hw : 0 ≤ w ∧ w ≤ 2) (k1 : 0 < v (v o 0) w → Q (0, 1) v h t) (k0 : ¬ 0 < v (v o 0) w → Q (0, 0) v h t) : Ctr Γ mX4_blooms [(2, o), (0, g), (0, w), (0, y)] v h t Q := by
  refine Ctr.ofG (ls := [(2, o), (0, g), (0, w), (0, y)]) rfl rfl rfl rfl rfl ?_
  refine Gx_aload_n (i := 0) dX4_blooms_0 rfl rfl ?_
  refine Gx_iload_n (i := 2) dX4_blooms_1 rfl rfl ?_
  refine cv_X4_13_3 dX4_blooms_2 rfl hh ⟨(Nat.le_of_ble_eq_true rfl), (Nat.le_of_ble_eq_true rfl)⟩ rfl ?_
  refine ct_X3_adds_3 hh ha hw ?_
  refine Gx_if_le (tgt := 12) dX4_blooms_5 (by decide) (fun c5 => ?_) (fun c5 => ?_)
  · refine Gx_iconst ⟨by decide, by decide⟩ dX4_blooms_12 ?_
    refine Gx_ireturn dX4_blooms_13 (Or.inl rfl) ?_
    first
    | exact k1 (by omega)
    | exact k0 (by omega)
  · refine Gx_iconst ⟨by decide, by decide⟩ dX4_blooms_8 ?_
    refine Gx_goto (tgt := 13) dX4_blooms_9 (by decide) ?_
    refine Gx_ireturn dX4_blooms_13 (Or.inr rfl) ?_
    first
    | exact k1 (by omega)
    | exact k0 (by omega)
theorem ct_X5_blooms_4 {h : gH} {o n : Int} {g w y : Int} (hh : h o = (4, n)) (k1 : v o 1 ≤ w ∧ v o 2 ≤ g → Q (0, 1) v h t) (k0 : ¬ (v o 1 ≤ w ∧ v o 2 ≤ g) → Q (0, 0) v h t) : Ctr Γ mX5_blooms [(2, o), (0, g), (0, w), (0, y)] v h t Q := by
  refine Ctr.ofG (ls := [(2, o), (0, g), (0, w), (0, y)]) rfl rfl rfl rfl rfl ?_
  refine Gx_iload_n (i := 2) dX5_blooms_0 rfl rfl ?_
  refine Gx_aload_n (i := 0) dX5_blooms_1 rfl rfl ?_
  refine gf_X5_9_4 dX5_blooms_2 rfl hh ?_
  refine Gx_icmp_lt (tgt := 20) dX5_blooms_5 (by decide) (fun c5 => ?_) (fun c5 => ?_)
  · refine Gx_iconst ⟨by decide, by decide⟩ dX5_blooms_20 ?_
    refine Gx_ireturn dX5_blooms_21 (Or.inl rfl) ?_
    first
    | exact k1 (by omega)
    | exact k0 (by omega)
  · refine Gx_iload_n (i := 1) dX5_blooms_8 rfl rfl ?_
    refine Gx_aload_n (i := 0) dX5_blooms_9 rfl rfl ?_
    refine gf_X5_15_4 dX5_blooms_10 rfl hh ?_
    refine Gx_icmp_lt (tgt := 20) dX5_blooms_13 (by decide) (fun c13 => ?_) (fun c13 => ?_)
    · refine Gx_iconst ⟨by decide, by decide⟩ dX5_blooms_20 ?_
      refine Gx_ireturn dX5_blooms_21 (Or.inl rfl) ?_
      first
      | exact k1 (by omega)
      | exact k0 (by omega)
    · refine Gx_iconst ⟨by decide, by decide⟩ dX5_blooms_16 ?_
      refine Gx_goto (tgt := 21) dX5_blooms_17 (by decide) ?_
      refine Gx_ireturn dX5_blooms_21 (Or.inr rfl) ?_
      first
      | exact k1 (by omega)
      | exact k0 (by omega)
theorem ct_X6_blooms_5 {h : gH} {o n : Int} {g w y : Int} (hh : h o = (5, n)) (k1 : v o 1 < g → Q (0, 1) v h t) (k0 : ¬ v o 1 < g → Q (0, 0) v h t) : Ctr Γ mX6_blooms [(2, o), (0, g), (0, w), (0, y)] v h t Q := by
  refine Ctr.ofG (ls := [(2, o), (0, g), (0, w), (0, y)]) rfl rfl rfl rfl rfl ?_
  refine Gx_iload_n (i := 1) dX6_blooms_0 rfl rfl ?_
  refine Gx_aload_n (i := 0) dX6_blooms_1 rfl rfl ?_
  refine gf_X6_9_5 dX6_blooms_2 rfl hh ?_
  refine Gx_icmp_le (tgt := 12) dX6_blooms_5 (by decide) (fun c5 => ?_) (fun c5 => ?_)
  · refine Gx_iconst ⟨by decide, by decide⟩ dX6_blooms_12 ?_
    refine Gx_ireturn dX6_blooms_13 (Or.inl rfl) ?_
    first
    | exact k1 (by omega)
    | exact k0 (by omega)
  · refine Gx_iconst ⟨by decide, by decide⟩ dX6_blooms_8 ?_
    refine Gx_goto (tgt := 13) dX6_blooms_9 (by decide) ?_
    refine Gx_ireturn dX6_blooms_13 (Or.inr rfl) ?_
    first
    | exact k1 (by omega)
    | exact k0 (by omega)
theorem ct_X6_blooms_6 {h : gH} {o n : Int} {g w y : Int} (hh : h o = (6, n)) (k1 : v o 1 < g → Q (0, 1) v h t) (k0 : ¬ v o 1 < g → Q (0, 0) v h t) : Ctr Γ mX6_blooms [(2, o), (0, g), (0, w), (0, y)] v h t Q := by
  refine Ctr.ofG (ls := [(2, o), (0, g), (0, w), (0, y)]) rfl rfl rfl rfl rfl ?_
  refine Gx_iload_n (i := 1) dX6_blooms_0 rfl rfl ?_
  refine Gx_aload_n (i := 0) dX6_blooms_1 rfl rfl ?_
  refine gf_X6_9_6 dX6_blooms_2 rfl hh ?_
  refine Gx_icmp_le (tgt := 12) dX6_blooms_5 (by decide) (fun c5 => ?_) (fun c5 => ?_)
  · refine Gx_iconst ⟨by decide, by decide⟩ dX6_blooms_12 ?_
    refine Gx_ireturn dX6_blooms_13 (Or.inl rfl) ?_
    first
    | exact k1 (by omega)
    | exact k0 (by omega)
  · refine Gx_iconst ⟨by decide, by decide⟩ dX6_blooms_8 ?_
    refine Gx_goto (tgt := 13) dX6_blooms_9 (by decide) ?_
    refine Gx_ireturn dX6_blooms_13 (Or.inr rfl) ?_
    first
    | exact k1 (by omega)
    | exact k0 (by omega)
theorem ct_X6_blooms_7 {h : gH} {o n : Int} {g w y : Int} (hh : h o = (7, n)) (k1 : v o 1 < g → Q (0, 1) v h t) (k0 : ¬ v o 1 < g → Q (0, 0) v h t) : Ctr Γ mX6_blooms [(2, o), (0, g), (0, w), (0, y)] v h t Q := by
  refine Ctr.ofG (ls := [(2, o), (0, g), (0, w), (0, y)]) rfl rfl rfl rfl rfl ?_
  refine Gx_iload_n (i := 1) dX6_blooms_0 rfl rfl ?_
  refine Gx_aload_n (i := 0) dX6_blooms_1 rfl rfl ?_
  refine gf_X6_9_7 dX6_blooms_2 rfl hh ?_
  refine Gx_icmp_le (tgt := 12) dX6_blooms_5 (by decide) (fun c5 => ?_) (fun c5 => ?_)
  · refine Gx_iconst ⟨by decide, by decide⟩ dX6_blooms_12 ?_
    refine Gx_ireturn dX6_blooms_13 (Or.inl rfl) ?_
    first
    | exact k1 (by omega)
    | exact k0 (by omega)
  · refine Gx_iconst ⟨by decide, by decide⟩ dX6_blooms_8 ?_
    refine Gx_goto (tgt := 13) dX6_blooms_9 (by decide) ?_
    refine Gx_ireturn dX6_blooms_13 (Or.inr rfl) ?_
    first
    | exact k1 (by omega)
    | exact k0 (by omega)
theorem ct_X8_blooms_7 {h : gH} {o n : Int} {g w y : Int} (hh : h o = (7, n)) (he : v o 3 ≠ 0) (k1 : v o 1 < g ∧ y.tmod (v o 3) = 0 → Q (0, 1) v h t) (k0 : ¬ (v o 1 < g ∧ y.tmod (v o 3) = 0) → Q (0, 0) v h t) : Ctr Γ mX8_blooms [(2, o), (0, g), (0, w), (0, y)] v h t Q := by
  refine Ctr.ofG (ls := [(2, o), (0, g), (0, w), (0, y)]) rfl rfl rfl rfl rfl ?_
  refine Gx_aload_n (i := 0) dX8_blooms_0 rfl rfl ?_
  refine Gx_iload_n (i := 1) dX8_blooms_1 rfl rfl ?_
  refine Gx_iload_n (i := 2) dX8_blooms_2 rfl rfl ?_
  refine Gx_iload_n (i := 3) dX8_blooms_3 rfl rfl ?_
  refine cs_X8_19_7 dX8_blooms_4 rfl hh ⟨(Nat.le_of_ble_eq_true rfl), (Nat.le_of_ble_eq_true rfl)⟩ rfl ?_
  refine ct_X6_blooms_7 hh (fun c4 => ?_) (fun c4 => ?_)
  · refine Gx_if_eq (tgt := 23) dX8_blooms_7 (by decide) (fun hz => absurd hz (by decide)) (fun _ => ?_)
    refine Gx_iload_n (i := 3) dX8_blooms_10 rfl rfl ?_
    refine Gx_aload_n (i := 0) dX8_blooms_11 rfl rfl ?_
    refine gf_X8_9_7 dX8_blooms_12 rfl hh ?_
    refine Gx_irem dX8_blooms_15 (by first | omega | (simp (disch := omega) only [w32_id]; omega)) ?_
    refine Gx_if_ne (tgt := 23) dX8_blooms_16 (by decide) (fun c16 => ?_) (fun c16 => ?_)
    · refine Gx_iconst ⟨by decide, by decide⟩ dX8_blooms_23 ?_
      refine Gx_ireturn dX8_blooms_24 (Or.inl rfl) ?_
      first
      | exact k1 ⟨c4, c16⟩
      | exact k0 (fun z => c4 z.1)
      | exact k0 (fun z => c16 z.2)
    · refine Gx_iconst ⟨by decide, by decide⟩ dX8_blooms_19 ?_
      refine Gx_goto (tgt := 24) dX8_blooms_20 (by decide) ?_
      refine Gx_ireturn dX8_blooms_24 (Or.inr rfl) ?_
      first
      | exact k1 ⟨c4, c16⟩
      | exact k0 (fun z => c4 z.1)
      | exact k0 (fun z => c16 z.2)
  · refine Gx_if_eq (tgt := 23) dX8_blooms_7 (by decide) (fun _ => ?_) (fun hz => absurd hz (by decide))
    refine Gx_iconst ⟨by decide, by decide⟩ dX8_blooms_23 ?_
    refine Gx_ireturn dX8_blooms_24 (Or.inl rfl) ?_
    first
    | exact k1 ⟨c4, c16⟩
    | exact k0 (fun z => c4 z.1)
    | exact k0 (fun z => c16 z.2)
theorem ct_X4_gives_3 {h : gH} {o n : Int} {w : Int} (hh : h o = (3, n)) (ha : h (v o 0) = (11, 3)) (hw : 0 ≤ w ∧ w ≤ 2) (kq : Q (0, v (v o 0) w) v h t) : Ctr Γ mX4_gives [(2, o), (0, w)] v h t Q := by
  refine Ctr.ofG (ls := [(2, o), (0, w)]) rfl rfl rfl rfl rfl ?_
  refine Gx_aload_n (i := 0) dX4_gives_0 rfl rfl ?_
  refine Gx_iload_n (i := 1) dX4_gives_1 rfl rfl ?_
  refine cv_X4_13_3 dX4_gives_2 rfl hh ⟨(Nat.le_of_ble_eq_true rfl), (Nat.le_of_ble_eq_true rfl)⟩ rfl ?_
  refine ct_X3_adds_3 hh ha hw ?_
  refine Gx_ireturn dX4_gives_5 trivial ?_
  exact kq
theorem ct_X5_gives_4 {h : gH} {o n : Int} {w : Int} (hh : h o = (4, n)) (kq : Q (0, v o 2) v h t) : Ctr Γ mX5_gives [(2, o), (0, w)] v h t Q := by
  refine Ctr.ofG (ls := [(2, o), (0, w)]) rfl rfl rfl rfl rfl ?_
  refine Gx_aload_n (i := 0) dX5_gives_0 rfl rfl ?_
  refine gf_X5_15_4 dX5_gives_1 rfl hh ?_
  refine Gx_ireturn dX5_gives_4 trivial ?_
  exact kq
theorem ct_X6_gives_5 {h : gH} {o n : Int} {w : Int} (hh : h o = (5, n)) (kq : Q (0, v o 2) v h t) : Ctr Γ mX6_gives [(2, o), (0, w)] v h t Q := by
  refine Ctr.ofG (ls := [(2, o), (0, w)]) rfl rfl rfl rfl rfl ?_
  refine Gx_aload_n (i := 0) dX6_gives_0 rfl rfl ?_
  refine gf_X6_15_5 dX6_gives_1 rfl hh ?_
  refine Gx_ireturn dX6_gives_4 trivial ?_
  exact kq
theorem ct_X6_gives_6 {h : gH} {o n : Int} {w : Int} (hh : h o = (6, n)) (kq : Q (0, v o 2) v h t) : Ctr Γ mX6_gives [(2, o), (0, w)] v h t Q := by
  refine Ctr.ofG (ls := [(2, o), (0, w)]) rfl rfl rfl rfl rfl ?_
  refine Gx_aload_n (i := 0) dX6_gives_0 rfl rfl ?_
  refine gf_X6_15_6 dX6_gives_1 rfl hh ?_
  refine Gx_ireturn dX6_gives_4 trivial ?_
  exact kq
theorem ct_X6_gives_7 {h : gH} {o n : Int} {w : Int} (hh : h o = (7, n)) (kq : Q (0, v o 2) v h t) : Ctr Γ mX6_gives [(2, o), (0, w)] v h t Q := by
  refine Ctr.ofG (ls := [(2, o), (0, w)]) rfl rfl rfl rfl rfl ?_
  refine Gx_aload_n (i := 0) dX6_gives_0 rfl rfl ?_
  refine gf_X6_15_7 dX6_gives_1 rfl hh ?_
  refine Gx_ireturn dX6_gives_4 trivial ?_
  exact kq
theorem ct_X7_sets_6 {h : gH} {o n : Int} {a b nd : Int} (hh : h o = (6, n)) (hb : 0 ≤ v o 3 ∧ v o 3 ≤ 99) (hab : (0 ≤ a ∧ a ≤ 24) ∧ 0 ≤ b ∧ b ≤ 24) (hn : nd ≤ 99) (k1 : (if 0 ≤ nd then nd else v o 3) * b ≤ 100 * a → Q (0, 1) v h t) (k0 : ¬ (if 0 ≤ nd then nd else v o 3) * b ≤ 100 * a → Q (0, 0) v h t) : Ctr Γ mX7_sets [(2, o), (0, a), (0, b), (0, nd)] v h t Q := by
  refine Ctr.ofG (ls := [(2, o), (0, a), (0, b), (0, nd)]) rfl rfl rfl rfl rfl ?_
  refine Gx_bipush dX7_sets_0 ⟨by decide, by decide⟩ ?_
  refine Gx_iload_n (i := 1) dX7_sets_2 rfl rfl ?_
  refine Gx_imul dX7_sets_3 ?_
  try simp (disch := omega) only [w32_id]
  refine Gx_iload_n (i := 3) dX7_sets_4 rfl rfl ?_
  refine Gx_if_ge (tgt := 15) dX7_sets_5 (by decide) (fun c5 => ?_) (fun c5 => ?_)
  · refine Gx_iload_n (i := 3) dX7_sets_15 rfl rfl ?_
    refine Gx_iload_n (i := 2) dX7_sets_16 rfl rfl ?_
    refine Gx_imul dX7_sets_17 ?_
    try simp (disch := omega) only [w32_id]
    have hm1 : nd ≥ 0 → 0 ≤ nd * b ∧ nd * b ≤ 99 * 24 := fun z => ⟨Int.mul_nonneg z hab.2.1, Int.mul_le_mul hn hab.2.2 hab.2.1 (by omega)⟩
    have hm2 : 0 ≤ v o 3 * b ∧ v o 3 * b ≤ 99 * 24 := ⟨Int.mul_nonneg hb.1 hab.2.1, Int.mul_le_mul hb.2 hab.2.2 hab.2.1 (by omega)⟩
    try rw [w32_id (x := nd * b) (by omega) (by omega)]
    try rw [w32_id (x := v o 3 * b) (by omega) (by omega)]
    refine Gx_icmp_lt (tgt := 25) dX7_sets_18 (by decide) (fun c18 => ?_) (fun c18 => ?_)
    · refine Gx_iconst ⟨by decide, by decide⟩ dX7_sets_25 ?_
      refine Gx_ireturn dX7_sets_26 (Or.inl rfl) ?_
      first
      | (rw [if_pos (by omega)] at k1 k0
         first
         | exact k1 (by omega)
         | exact k0 (by omega))
      | (rw [if_neg (by omega)] at k1 k0
         first
         | exact k1 (by omega)
         | exact k0 (by omega))
    · refine Gx_iconst ⟨by decide, by decide⟩ dX7_sets_21 ?_
      refine Gx_goto (tgt := 26) dX7_sets_22 (by decide) ?_
      refine Gx_ireturn dX7_sets_26 (Or.inr rfl) ?_
      first
      | (rw [if_pos (by omega)] at k1 k0
         first
         | exact k1 (by omega)
         | exact k0 (by omega))
      | (rw [if_neg (by omega)] at k1 k0
         first
         | exact k1 (by omega)
         | exact k0 (by omega))
  · refine Gx_aload_n (i := 0) dX7_sets_8 rfl rfl ?_
    refine gf_X7_9_6 dX7_sets_9 rfl hh ?_
    refine Gx_goto (tgt := 16) dX7_sets_12 (by decide) ?_
    refine Gx_iload_n (i := 2) dX7_sets_16 rfl rfl ?_
    refine Gx_imul dX7_sets_17 ?_
    try simp (disch := omega) only [w32_id]
    have hm1 : nd ≥ 0 → 0 ≤ nd * b ∧ nd * b ≤ 99 * 24 := fun z => ⟨Int.mul_nonneg z hab.2.1, Int.mul_le_mul hn hab.2.2 hab.2.1 (by omega)⟩
    have hm2 : 0 ≤ v o 3 * b ∧ v o 3 * b ≤ 99 * 24 := ⟨Int.mul_nonneg hb.1 hab.2.1, Int.mul_le_mul hb.2 hab.2.2 hab.2.1 (by omega)⟩
    try rw [w32_id (x := nd * b) (by omega) (by omega)]
    try rw [w32_id (x := v o 3 * b) (by omega) (by omega)]
    refine Gx_icmp_lt (tgt := 25) dX7_sets_18 (by decide) (fun c18 => ?_) (fun c18 => ?_)
    · refine Gx_iconst ⟨by decide, by decide⟩ dX7_sets_25 ?_
      refine Gx_ireturn dX7_sets_26 (Or.inl rfl) ?_
      first
      | (rw [if_pos (by omega)] at k1 k0
         first
         | exact k1 (by omega)
         | exact k0 (by omega))
      | (rw [if_neg (by omega)] at k1 k0
         first
         | exact k1 (by omega)
         | exact k0 (by omega))
    · refine Gx_iconst ⟨by decide, by decide⟩ dX7_sets_21 ?_
      refine Gx_goto (tgt := 26) dX7_sets_22 (by decide) ?_
      refine Gx_ireturn dX7_sets_26 (Or.inr rfl) ?_
      first
      | (rw [if_pos (by omega)] at k1 k0
         first
         | exact k1 (by omega)
         | exact k0 (by omega))
      | (rw [if_neg (by omega)] at k1 k0
         first
         | exact k1 (by omega)
         | exact k0 (by omega))
theorem gv_X0_297 {M : gI} {pc : Nat} {ls st : List gV} {bc bs : Nat} {h : gH} {o n : Int} {k : Nat} {w : Int} (d : decode M.2.1 pc = .ok (.invokevirtual 297, 3)) (ho : RX0 = M.2.2.2.2.1) (hh : h o = (k, n)) (hk : 3 ≤ k ∧ k ≤ 7) (ha : h (v o 0) = (11, 3)) (hw : 0 ≤ w ∧ w ≤ 2) (hrm : 1 ≤ M.2.2.2.2.2.frames ∧ 21 ≤ M.2.2.2.2.2.locals) (hcs : (gCs st).ble 8 = true) (kk : Gx Γ M (pc + 3) ls ((0, v (v o 0) w) :: st) v h t bc bs Q) : Gx Γ M pc ls ((0, w) :: (2, o) :: st) v h t bc bs Q := by
  rcases (by omega : k = 3 ∨ k = 4 ∨ k = 5 ∨ k = 6 ∨ k = 7) with z | z | z | z | z
  · subst z
    exact cv_X0_297_3 d ho hh ⟨Nat.le_trans (by decide) hrm.1, Nat.le_trans (by decide) hrm.2⟩ hcs (ct_X3_adds_3 hh ha hw kk)
  · subst z
    exact cv_X0_297_4 d ho hh ⟨Nat.le_trans (by decide) hrm.1, Nat.le_trans (by decide) hrm.2⟩ hcs (ct_X3_adds_4 hh ha hw kk)
  · subst z
    exact cv_X0_297_5 d ho hh ⟨Nat.le_trans (by decide) hrm.1, Nat.le_trans (by decide) hrm.2⟩ hcs (ct_X3_adds_5 hh ha hw kk)
  · subst z
    exact cv_X0_297_6 d ho hh ⟨Nat.le_trans (by decide) hrm.1, Nat.le_trans (by decide) hrm.2⟩ hcs (ct_X3_adds_6 hh ha hw kk)
  · subst z
    exact cv_X0_297_7 d ho hh ⟨Nat.le_trans (by decide) hrm.1, Nat.le_trans (by decide) hrm.2⟩ hcs (ct_X3_adds_7 hh ha hw kk)

theorem gv_X0_300 {M : gI} {pc : Nat} {ls st : List gV} {bc bs : Nat} {h : gH} {o n : Int} {k : Nat}  (d : decode M.2.1 pc = .ok (.invokevirtual 300, 3)) (ho : RX0 = M.2.2.2.2.1) (hh : h o = (k, n)) (hk : 3 ≤ k ∧ k ≤ 7)  (hrm : 1 ≤ M.2.2.2.2.2.frames ∧ 20 ≤ M.2.2.2.2.2.locals) (hcs : (gCs st).ble 8 = true) (kk : Gx Γ M (pc + 3) ls ((0, aKd k) :: st) v h t bc bs Q) : Gx Γ M pc ls ((2, o) :: st) v h t bc bs Q := by
  rcases (by omega : k = 3 ∨ k = 4 ∨ k = 5 ∨ k = 6 ∨ k = 7) with z | z | z | z | z
  · subst z
    exact cv_X0_300_3 d ho hh ⟨Nat.le_trans (by decide) hrm.1, Nat.le_trans (by decide) hrm.2⟩ hcs (ct_X4_kind_3 hh kk)
  · subst z
    exact cv_X0_300_4 d ho hh ⟨Nat.le_trans (by decide) hrm.1, Nat.le_trans (by decide) hrm.2⟩ hcs (ct_X5_kind_4 hh kk)
  · subst z
    exact cv_X0_300_5 d ho hh ⟨Nat.le_trans (by decide) hrm.1, Nat.le_trans (by decide) hrm.2⟩ hcs (ct_X6_kind_5 hh kk)
  · subst z
    exact cv_X0_300_6 d ho hh ⟨Nat.le_trans (by decide) hrm.1, Nat.le_trans (by decide) hrm.2⟩ hcs (ct_X7_kind_6 hh kk)
  · subst z
    exact cv_X0_300_7 d ho hh ⟨Nat.le_trans (by decide) hrm.1, Nat.le_trans (by decide) hrm.2⟩ hcs (ct_X8_kind_7 hh kk)

theorem gv_X0_360 {M : gI} {pc : Nat} {ls st : List gV} {bc bs : Nat} {h : gH} {o n : Int} {k : Nat}  (d : decode M.2.1 pc = .ok (.invokevirtual 360, 3)) (ho : RX0 = M.2.2.2.2.1) (hh : h o = (k, n)) (hk : 3 ≤ k ∧ k ≤ 7)  (hrm : 1 ≤ M.2.2.2.2.2.frames ∧ 20 ≤ M.2.2.2.2.2.locals) (hcs : (gCs st).ble 8 = true) (kk : Gx Γ M (pc + 3) ls ((0, if k = 3 then 0 else 1) :: st) v h t bc bs Q) : Gx Γ M pc ls ((2, o) :: st) v h t bc bs Q := by
  rcases (by omega : k = 3 ∨ k = 4 ∨ k = 5 ∨ k = 6 ∨ k = 7) with z | z | z | z | z
  · subst z
    exact cv_X0_360_3 d ho hh ⟨Nat.le_trans (by decide) hrm.1, Nat.le_trans (by decide) hrm.2⟩ hcs (ct_X4_stores_3 hh kk)
  · subst z
    exact cv_X0_360_4 d ho hh ⟨Nat.le_trans (by decide) hrm.1, Nat.le_trans (by decide) hrm.2⟩ hcs (ct_X3_stores_4 hh kk)
  · subst z
    exact cv_X0_360_5 d ho hh ⟨Nat.le_trans (by decide) hrm.1, Nat.le_trans (by decide) hrm.2⟩ hcs (ct_X3_stores_5 hh kk)
  · subst z
    exact cv_X0_360_6 d ho hh ⟨Nat.le_trans (by decide) hrm.1, Nat.le_trans (by decide) hrm.2⟩ hcs (ct_X3_stores_6 hh kk)
  · subst z
    exact cv_X0_360_7 d ho hh ⟨Nat.le_trans (by decide) hrm.1, Nat.le_trans (by decide) hrm.2⟩ hcs (ct_X3_stores_7 hh kk)

theorem gv_X0_380 {M : gI} {pc : Nat} {ls st : List gV} {bc bs : Nat} {h : gH} {o n : Int} {k : Nat} {w : Int} (d : decode M.2.1 pc = .ok (.invokevirtual 380, 3)) (ho : RX0 = M.2.2.2.2.1) (hh : h o = (k, n)) (hk : 3 ≤ k ∧ k ≤ 7) (ha : h (v o 0) = (11, 3)) (hw : 0 ≤ w ∧ w ≤ 2) (hrm : 2 ≤ M.2.2.2.2.2.frames ∧ 61 ≤ M.2.2.2.2.2.locals) (hcs : (gCs st).ble 8 = true) (kk : Gx Γ M (pc + 3) ls ((0, if k = 3 then v (v o 0) w else v o 2) :: st) v h t bc bs Q) : Gx Γ M pc ls ((0, w) :: (2, o) :: st) v h t bc bs Q := by
  rcases (by omega : k = 3 ∨ k = 4 ∨ k = 5 ∨ k = 6 ∨ k = 7) with z | z | z | z | z
  · subst z
    exact cv_X0_380_3 d ho hh ⟨Nat.le_trans (by decide) hrm.1, Nat.le_trans (by decide) hrm.2⟩ hcs (ct_X4_gives_3 hh ha hw kk)
  · subst z
    exact cv_X0_380_4 d ho hh ⟨Nat.le_trans (by decide) hrm.1, Nat.le_trans (by decide) hrm.2⟩ hcs (ct_X5_gives_4 hh kk)
  · subst z
    exact cv_X0_380_5 d ho hh ⟨Nat.le_trans (by decide) hrm.1, Nat.le_trans (by decide) hrm.2⟩ hcs (ct_X6_gives_5 hh kk)
  · subst z
    exact cv_X0_380_6 d ho hh ⟨Nat.le_trans (by decide) hrm.1, Nat.le_trans (by decide) hrm.2⟩ hcs (ct_X6_gives_6 hh kk)
  · subst z
    exact cv_X0_380_7 d ho hh ⟨Nat.le_trans (by decide) hrm.1, Nat.le_trans (by decide) hrm.2⟩ hcs (ct_X6_gives_7 hh kk)

theorem gv_X0_416 {M : gI} {pc : Nat} {ls st : List gV} {bc bs : Nat} {h : gH} {o n : Int} {k : Nat} {q : Int} (d : decode M.2.1 pc = .ok (.invokevirtual 416, 3)) (ho : RX0 = M.2.2.2.2.1) (hh : h o = (k, n)) (hk : 3 ≤ k ∧ k ≤ 7)  (hrm : 3 ≤ M.2.2.2.2.2.frames ∧ 63 ≤ M.2.2.2.2.2.locals) (hcs : (gCs st).ble 8 = true) (k1 : aIs k q → Gx Γ M (pc + 3) ls ((0, 1) :: st) v h t bc bs Q) (k0 : ¬ (aIs k q) → Gx Γ M (pc + 3) ls ((0, 0) :: st) v h t bc bs Q) : Gx Γ M pc ls ((0, q) :: (2, o) :: st) v h t bc bs Q := by
  rcases (by omega : k = 3 ∨ k = 4 ∨ k = 5 ∨ k = 6 ∨ k = 7) with z | z | z | z | z
  · subst z
    exact cv_X0_416_3 d ho hh ⟨Nat.le_trans (by decide) hrm.1, Nat.le_trans (by decide) hrm.2⟩ hcs (ct_X4_is_3 hh (fun z => k1 (by show _ ∨ _ = (1 : Int) ∨ _; omega)) (fun z => k0 (by show ¬ (_ ∨ _ = (1 : Int) ∨ _); omega)))
  · subst z
    exact cv_X0_416_4 d ho hh ⟨Nat.le_trans (by decide) hrm.1, Nat.le_trans (by decide) hrm.2⟩ hcs (ct_X5_is_4 hh (fun z => k1 (by show _ ∨ _ = (3 : Int) ∨ _; omega)) (fun z => k0 (by show ¬ (_ ∨ _ = (3 : Int) ∨ _); omega)))
  · subst z
    exact cv_X0_416_5 d ho hh ⟨Nat.le_trans (by decide) hrm.1, Nat.le_trans (by decide) hrm.2⟩ hcs (ct_X6_is_5 hh (fun z => k1 (by show _ ∨ _ = (2 : Int) ∨ _; omega)) (fun z => k0 (by show ¬ (_ ∨ _ = (2 : Int) ∨ _); omega)))
  · subst z
    exact cv_X0_416_6 d ho hh ⟨Nat.le_trans (by decide) hrm.1, Nat.le_trans (by decide) hrm.2⟩ hcs (ct_X7_is_6 hh (fun z => k1 (by show _ ∨ _ = (4 : Int) ∨ _; omega)) (fun z => k0 (by show ¬ (_ ∨ _ = (4 : Int) ∨ _); omega)))
  · subst z
    exact cv_X0_416_7 d ho hh ⟨Nat.le_trans (by decide) hrm.1, Nat.le_trans (by decide) hrm.2⟩ hcs (ct_X8_is_7 hh (fun z => k1 (by show _ ∨ _ = (5 : Int) ∨ _; omega)) (fun z => k0 (by show ¬ (_ ∨ _ = (5 : Int) ∨ _); omega)))

theorem gv_X0_419 {M : gI} {pc : Nat} {ls st : List gV} {bc bs : Nat} {h : gH} {o n : Int} {k : Nat}  (d : decode M.2.1 pc = .ok (.invokevirtual 419, 3)) (ho : RX0 = M.2.2.2.2.1) (hh : h o = (k, n)) (hk : 3 ≤ k ∧ k ≤ 7) (ha : h (v o 0) = (11, 3)) (hb : ∀ j, 0 ≤ j → j ≤ 2 → 0 ≤ v (v o 0) j ∧ v (v o 0) j ≤ 9) (hc : k ≠ 3 → (0 ≤ v o 1 ∧ v o 1 ≤ 60) ∧ 0 ≤ v o 2 ∧ v o 2 ≤ 60) (hrm : 2 ≤ M.2.2.2.2.2.frames ∧ 60 ≤ M.2.2.2.2.2.locals) (hcs : (gCs st).ble 8 = true) (kk : Gx Γ M (pc + 3) ls ((0, if k = 3 then v (v o 0) 0 + v (v o 0) 1 + v (v o 0) 2 else if k ≤ 5 then 100 * v o 1 + v o 2 else v o 3) :: st) v h t bc bs Q) : Gx Γ M pc ls ((2, o) :: st) v h t bc bs Q := by
  rcases (by omega : k = 3 ∨ k = 4 ∨ k = 5 ∨ k = 6 ∨ k = 7) with z | z | z | z | z
  · subst z
    exact cv_X0_419_3 d ho hh ⟨Nat.le_trans (by decide) hrm.1, Nat.le_trans (by decide) hrm.2⟩ hcs (ct_X4_tells_3 hh ha hb kk)
  · subst z
    exact cv_X0_419_4 d ho hh ⟨Nat.le_trans (by decide) hrm.1, Nat.le_trans (by decide) hrm.2⟩ hcs (ct_X5_tells_4 hh (hc (by decide)) kk)
  · subst z
    exact cv_X0_419_5 d ho hh ⟨Nat.le_trans (by decide) hrm.1, Nat.le_trans (by decide) hrm.2⟩ hcs (ct_X6_tells_5 hh (hc (by decide)) kk)
  · subst z
    exact cv_X0_419_6 d ho hh ⟨Nat.le_trans (by decide) hrm.1, Nat.le_trans (by decide) hrm.2⟩ hcs (ct_X7_tells_6 hh kk)
  · subst z
    exact cv_X0_419_7 d ho hh ⟨Nat.le_trans (by decide) hrm.1, Nat.le_trans (by decide) hrm.2⟩ hcs (ct_X8_tells_7 hh kk)

theorem gv_X0_362 {M : gI} {pc : Nat} {ls st : List gV} {bc bs : Nat} {h : gH} {o n : Int} {k : Nat} {g w y : Int} (d : decode M.2.1 pc = .ok (.invokevirtual 362, 3)) (ho : RX0 = M.2.2.2.2.1) (hh : h o = (k, n)) (hk : 3 ≤ k ∧ k ≤ 7) (ha : h (v o 0) = (11, 3)) (hw : 0 ≤ w ∧ w ≤ 2) (he : k = 7 → v o 3 ≠ 0) (hrm : 2 ≤ M.2.2.2.2.2.frames ∧ 63 ≤ M.2.2.2.2.2.locals) (hcs : (gCs st).ble 8 = true) (k1 : (k = 3 ∧ 0 < v (v o 0) w) ∨ (k = 4 ∧ v o 1 ≤ w ∧ v o 2 ≤ g) ∨ (k = 7 ∧ v o 1 < g ∧ y.tmod (v o 3) = 0) ∨ ((k = 5 ∨ k = 6) ∧ v o 1 < g) → Gx Γ M (pc + 3) ls ((0, 1) :: st) v h t bc bs Q) (k0 : ¬ ((k = 3 ∧ 0 < v (v o 0) w) ∨ (k = 4 ∧ v o 1 ≤ w ∧ v o 2 ≤ g) ∨ (k = 7 ∧ v o 1 < g ∧ y.tmod (v o 3) = 0) ∨ ((k = 5 ∨ k = 6) ∧ v o 1 < g)) → Gx Γ M (pc + 3) ls ((0, 0) :: st) v h t bc bs Q) : Gx Γ M pc ls ((0, y) :: (0, w) :: (0, g) :: (2, o) :: st) v h t bc bs Q := by
  rcases (by omega : k = 3 ∨ k = 4 ∨ k = 5 ∨ k = 6 ∨ k = 7) with z | z | z | z | z
  · subst z
    exact cv_X0_362_3 d ho hh ⟨Nat.le_trans (by decide) hrm.1, Nat.le_trans (by decide) hrm.2⟩ hcs (ct_X4_blooms_3 hh ha hw (fun z => k1 (by first | exact Or.inl ⟨rfl, z⟩ | exact Or.inr (Or.inl ⟨rfl, z⟩) | exact Or.inr (Or.inr (Or.inl ⟨rfl, z⟩)) | exact Or.inr (Or.inr (Or.inr ⟨by decide, z⟩)))) (fun z => k0 (by rintro (q | q | q | q) <;> first | exact z q.2 | exact absurd q.1 (by decide))))
  · subst z
    exact cv_X0_362_4 d ho hh ⟨Nat.le_trans (by decide) hrm.1, Nat.le_trans (by decide) hrm.2⟩ hcs (ct_X5_blooms_4 hh (fun z => k1 (by first | exact Or.inl ⟨rfl, z⟩ | exact Or.inr (Or.inl ⟨rfl, z⟩) | exact Or.inr (Or.inr (Or.inl ⟨rfl, z⟩)) | exact Or.inr (Or.inr (Or.inr ⟨by decide, z⟩)))) (fun z => k0 (by rintro (q | q | q | q) <;> first | exact z q.2 | exact absurd q.1 (by decide))))
  · subst z
    exact cv_X0_362_5 d ho hh ⟨Nat.le_trans (by decide) hrm.1, Nat.le_trans (by decide) hrm.2⟩ hcs (ct_X6_blooms_5 hh (fun z => k1 (by first | exact Or.inl ⟨rfl, z⟩ | exact Or.inr (Or.inl ⟨rfl, z⟩) | exact Or.inr (Or.inr (Or.inl ⟨rfl, z⟩)) | exact Or.inr (Or.inr (Or.inr ⟨by decide, z⟩)))) (fun z => k0 (by rintro (q | q | q | q) <;> first | exact z q.2 | exact absurd q.1 (by decide))))
  · subst z
    exact cv_X0_362_6 d ho hh ⟨Nat.le_trans (by decide) hrm.1, Nat.le_trans (by decide) hrm.2⟩ hcs (ct_X6_blooms_6 hh (fun z => k1 (by first | exact Or.inl ⟨rfl, z⟩ | exact Or.inr (Or.inl ⟨rfl, z⟩) | exact Or.inr (Or.inr (Or.inl ⟨rfl, z⟩)) | exact Or.inr (Or.inr (Or.inr ⟨by decide, z⟩)))) (fun z => k0 (by rintro (q | q | q | q) <;> first | exact z q.2 | exact absurd q.1 (by decide))))
  · subst z
    exact cv_X0_362_7 d ho hh ⟨Nat.le_trans (by decide) hrm.1, Nat.le_trans (by decide) hrm.2⟩ hcs (ct_X8_blooms_7 hh (he rfl) (fun z => k1 (by first | exact Or.inl ⟨rfl, z⟩ | exact Or.inr (Or.inl ⟨rfl, z⟩) | exact Or.inr (Or.inr (Or.inl ⟨rfl, z⟩)) | exact Or.inr (Or.inr (Or.inr ⟨by decide, z⟩)))) (fun z => k0 (by rintro (q | q | q | q) <;> first | exact z q.2 | exact absurd q.1 (by decide))))

end
