/-! AcornYears: its memory as a wood; small methods -/
section
variable {Γ : gC} {v : gM} {K : gH} {t : Nat} {Q : gQ}
/-- a sort's numbers in the model's order -/
def aS (v : gM) (h : gH) (o q : Int) : Int := if q = 0 then aKd (h o).1 else if q ≤ 3 then v (v o 0) (q - 1) else if q = 4 then (if (h o).1 = 3 then 0 else v o 1) else if q = 5 then (if (h o).1 = 3 then 0 else v o 2) else if (h o).1 = 6 then (if 0 ≤ v 0 35 then v 0 35 else v o 3) else if (h o).1 = 7 then v o 3 else 0
/-- the wood x (17 as it is, 23 tried) in the model's places -/
def aN (v : gM) (h : gH) (x : Int) : gM := fun a k =>
  if a = 38 then (if k = 20 then (h (v 0 7)).2 else if k = 22 then v 0 12 else if k = 26 then v 0 10 else if k = 27 then v 0 11 else if k = 28 then (h (v 0 8)).2 else if k = 31 then v x 2 else if k = 33 then v 0 32 else 0)
  else if a = 50 then (if 0 ≤ k ∧ k < 7 * (h (v 0 7)).2 then aS v h (v (v 0 7) (k / 7)) (k % 7) else 0)
  else if a = 51 then (if 0 ≤ k ∧ k < v 0 12 then v 7 k else 0)
  else if a = 52 then (if 0 ≤ k ∧ k < v 0 12 then v 8 k else 0)
  else if a = 53 then (if 0 ≤ k ∧ k < v 0 12 then v 9 k else 0)
  else if a = 54 then (if 0 ≤ k ∧ k < (h (v 0 8)).2 then v (v 0 8) k else 0)
  else if a = 55 then (if 0 ≤ k ∧ k ≤ 2 then v 5 k else 0)
  else if a = 56 then (if 0 ≤ k ∧ k < v 0 12 then v (x + 2) k else 0)
  else if a = 57 then (if 0 ≤ k ∧ k < v 0 32 then v (v 16 k) 0 else 0)
  else if a = 58 then (if 0 ≤ k ∧ k < v 0 32 then v (x + 1) k else 0)
  else 0
/-- the cells that are not at fixed places -/
def aWf (v : gM) (h : gH) : Prop := ((v 0 7 = 4 ∨ 66 ≤ v 0 7) ∧ (h (v 0 7)).1 = 17 ∧ 0 ≤ (h (v 0 7)).2 ∧ (h (v 0 7)).2 ≤ 6) ∧ (∀ s, 0 ≤ s → s < (h (v 0 7)).2 → 66 ≤ v (v 0 7) s ∧ (3 ≤ (h (v (v 0 7) s)).1 ∧ (h (v (v 0 7) s)).1 ≤ 7) ∧ 66 ≤ v (v (v 0 7) s) 0 ∧ h (v (v (v 0 7) s) 0) = (11, 3)) ∧ ((v 0 8 = 37 ∨ 66 ≤ v 0 8) ∧ (h (v 0 8)).1 = 11) ∧ (∀ i, 0 ≤ i → i < v 0 32 → 66 ≤ v 16 i ∧ (h (v 16 i)).1 = 8) ∧ ∀ i j, 0 ≤ i → i < v 0 32 → 0 ≤ j → j < v 0 32 → i ≠ j → v 16 i ≠ v 16 j
theorem pairEq {a : Nat × Int} {k : Nat} (h : a.1 = k) : a = (k, a.2) := by rw [← h]
theorem hdx {x : Int} (hx : x = 17 ∨ x = 23) : gHd K x = (21, 0) ∧ gHd K (x + 1) = (10, 24) ∧ gHd K (x + 2) = (10, 2) ∧ gHd K (x + 3) = (12, 24) ∧ gHd K (x + 4) = (10, 24) ∧ gHd K (x + 5) = (12, 2) := by
  rcases hx with z | z <;> rw [z] <;> exact ⟨rfl, rfl, rfl, rfl, rfl, rfl⟩

theorem ct_X0_isIn {x lo hi : Int} (k1 : lo ≤ x ∧ x ≤ hi → Q (0, 1) v (gHd K) t) (k0 : ¬ (lo ≤ x ∧ x ≤ hi) → Q (0, 0) v (gHd K) t) : Ctr Γ mX0_isIn [(0, x), (0, lo), (0, hi)] v (gHd K) t Q := by
  refine Ctr.ofG (ls := [(0, x), (0, lo), (0, hi)]) rfl rfl rfl rfl rfl ?_
  refine Gx_iload_n (i := 0) dX0_isIn_0 rfl rfl ?_
  refine Gx_iload_n (i := 1) dX0_isIn_1 rfl rfl ?_
  refine Gx_icmp_lt (tgt := 14) dX0_isIn_2 (by decide) (fun c2 => ?_) (fun c2 => ?_)
  · refine Gx_iconst ⟨by decide, by decide⟩ dX0_isIn_14 ?_
    refine Gx_ireturn dX0_isIn_15 (Or.inl rfl) ?_
    first
    | exact k1 (by omega)
    | exact k0 (by omega)
  · refine Gx_iload_n (i := 0) dX0_isIn_5 rfl rfl ?_
    refine Gx_iload_n (i := 2) dX0_isIn_6 rfl rfl ?_
    refine Gx_icmp_gt (tgt := 14) dX0_isIn_7 (by decide) (fun c7 => ?_) (fun c7 => ?_)
    · refine Gx_iconst ⟨by decide, by decide⟩ dX0_isIn_14 ?_
      refine Gx_ireturn dX0_isIn_15 (Or.inl rfl) ?_
      first
      | exact k1 (by omega)
      | exact k0 (by omega)
    · refine Gx_iconst ⟨by decide, by decide⟩ dX0_isIn_10 ?_
      refine Gx_goto (tgt := 15) dX0_isIn_11 (by decide) ?_
      refine Gx_ireturn dX0_isIn_15 (Or.inr rfl) ?_
      first
      | exact k1 (by omega)
      | exact k0 (by omega)
theorem ct_X0_has {x k : Int} (hk : 0 ≤ k ∧ k < 32) (k1 : gHas x k = true → Q (0, 1) v (gHd K) t) (k0 : gHas x k = false → Q (0, 0) v (gHd K) t) : Ctr Γ mX0_has [(0, x), (0, k)] v (gHd K) t Q := by
  refine Ctr.ofG (ls := [(0, x), (0, k)]) rfl rfl rfl rfl rfl ?_
  refine Gx_iload_n (i := 0) dX0_has_0 rfl rfl ?_
  refine Gx_iload_n (i := 1) dX0_has_1 rfl rfl ?_
  refine Gx_ishr dX0_has_2 ?_
  refine Gx_iconst ⟨by decide, by decide⟩ dX0_has_3 ?_
  refine Gx_iand dX0_has_4 ?_
  refine Gx_iconst ⟨by decide, by decide⟩ dX0_has_5 ?_
  refine Gx_icmp_ne (tgt := 13) dX0_has_6 (by decide) (fun c6 => ?_) (fun c6 => ?_)
  · refine Gx_iconst ⟨by decide, by decide⟩ dX0_has_13 ?_
    refine Gx_ireturn dX0_has_14 (Or.inl rfl) ?_
    first
    | exact k1 ((has_iff hk).1 c6)
    | (refine k0 ?_
       cases hz : gHas x k
       · rfl
       · exact absurd ((has_iff hk).2 hz) c6)
  · refine Gx_iconst ⟨by decide, by decide⟩ dX0_has_9 ?_
    refine Gx_goto (tgt := 14) dX0_has_10 (by decide) ?_
    refine Gx_ireturn dX0_has_14 (Or.inr rfl) ?_
    first
    | exact k1 ((has_iff hk).1 c6)
    | (refine k0 ?_
       cases hz : gHas x k
       · rfl
       · exact absurd ((has_iff hk).2 hz) c6)
theorem ct_X0_hasV {x k : Int} (hk : 0 ≤ k ∧ k < 32) (k1 : Q (0, if gHas x k = true then 1 else 0) v (gHd K) t) : Ctr Γ mX0_has [(0, x), (0, k)] v (gHd K) t Q := by
  refine ct_X0_has hk (fun h => ?_) (fun h => ?_)
  · rw [if_pos h] at k1; exact k1
  · rw [h] at k1; exact k1

theorem ct_X0_met {f : Int} (hf : 0 ≤ f ∧ f < 6) (k : Q (0, -3) (gUp (gUp v 0 0 f) 1 f (w32 (v 1 f + 1))) (gHd K) t) : Ctr Γ mX0_met [(2, 0), (0, f)] v (gHd K) t Q := by
  refine Ctr.ofG (ls := [(2, 0), (0, f)]) rfl rfl rfl rfl rfl ?_
  refine Gx_aload_n (i := 0) dX0_met_0 rfl rfl ?_
  refine Gx_iload_n (i := 1) dX0_met_1 rfl rfl ?_
  refine pf_X0_3_20 dX0_met_2 rfl rfl ?_
  refine Gx_aload_n (i := 0) dX0_met_5 rfl rfl ?_
  refine gf_X0_7_20 dX0_met_6 rfl rfl ?_
  refine Gx_iload_n (i := 1) dX0_met_9 rfl rfl ?_
  refine Gx_dup2 (Nat.ne_of_beq_eq_false rfl) (Nat.ne_of_beq_eq_false rfl) dX0_met_10 ?_
  refine Gx_iaload dX0_met_11 rfl (by first | omega | (simp (disch := omega) only [w32_id]; omega)) ?_
  rw [gUp_ne2 (by omega)]
  refine Gx_iconst ⟨by decide, by decide⟩ dX0_met_12 ?_
  refine Gx_iadd dX0_met_13 ?_
  try simp (disch := omega) only [w32_id]
  refine Gx_iastore dX0_met_14 rfl (by first | omega | (simp (disch := omega) only [w32_id]; omega)) ?_
  refine Gx_bipush dX0_met_15 ⟨by decide, by decide⟩ ?_
  refine Gx_ireturn dX0_met_17 trivial ?_
  exact k
theorem ct_X0_ask {x a : Int} (k : Q (0, a) (gUp v 0 2 x) (gHd K) t) : Ctr Γ mX0_ask [(2, 0), (0, x), (0, a)] v (gHd K) t Q := by
  refine Ctr.ofG (ls := [(2, 0), (0, x), (0, a)]) rfl rfl rfl rfl rfl ?_
  refine Gx_aload_n (i := 0) dX0_ask_0 rfl rfl ?_
  refine Gx_iload_n (i := 1) dX0_ask_1 rfl rfl ?_
  refine pf_X0_11_20 dX0_ask_2 rfl rfl ?_
  refine Gx_iload_n (i := 2) dX0_ask_5 rfl rfl ?_
  refine Gx_ireturn dX0_ask_6 trivial ?_
  exact k
theorem ct_X0_isRow {r : Int} (k1 : 0 ≤ r ∧ r ≤ 5 → Q (0, 1) v (gHd K) t) (k0 : ¬ (0 ≤ r ∧ r ≤ 5) → Q (0, 0) v (gHd K) t) : Ctr Γ mX0_isRow [(0, r)] v (gHd K) t Q := by
  refine Ctr.ofG (ls := [(0, r)]) rfl rfl rfl rfl rfl ?_
  refine Gx_iload_n (i := 0) dX0_isRow_0 rfl rfl ?_
  refine Gx_iconst ⟨by decide, by decide⟩ dX0_isRow_1 ?_
  refine Gx_iconst ⟨by decide, by decide⟩ dX0_isRow_2 ?_
  refine cl_X0_129 dX0_isRow_3 rfl ⟨(Nat.le_of_ble_eq_true rfl), (Nat.le_of_ble_eq_true rfl)⟩ rfl ?_
  refine ct_X0_isIn (fun hr => ?_) (fun hr => ?_)
  · refine Gx_ireturn dX0_isRow_6 (Or.inr rfl) ?_
    first
    | exact k1 (by omega)
    | exact k0 (by omega)
  · refine Gx_ireturn dX0_isRow_6 (Or.inl rfl) ?_
    first
    | exact k1 (by omega)
    | exact k0 (by omega)
theorem ct_X0_isText {r : Int} (k1 : 0 ≤ r ∧ r ≤ 3 → Q (0, 1) v (gHd K) t) (k0 : ¬ (0 ≤ r ∧ r ≤ 3) → Q (0, 0) v (gHd K) t) : Ctr Γ mX0_isText [(0, r)] v (gHd K) t Q := by
  refine Ctr.ofG (ls := [(0, r)]) rfl rfl rfl rfl rfl ?_
  refine Gx_iload_n (i := 0) dX0_isText_0 rfl rfl ?_
  refine Gx_iconst ⟨by decide, by decide⟩ dX0_isText_1 ?_
  refine Gx_iconst ⟨by decide, by decide⟩ dX0_isText_2 ?_
  refine cl_X0_129 dX0_isText_3 rfl ⟨(Nat.le_of_ble_eq_true rfl), (Nat.le_of_ble_eq_true rfl)⟩ rfl ?_
  refine ct_X0_isIn (fun hr => ?_) (fun hr => ?_)
  · refine Gx_ireturn dX0_isText_6 (Or.inr rfl) ?_
    first
    | exact k1 (by omega)
    | exact k0 (by omega)
  · refine Gx_ireturn dX0_isText_6 (Or.inl rfl) ?_
    first
    | exact k1 (by omega)
    | exact k0 (by omega)
theorem ct_X0_isTree {x : Int} (hn : 0 ≤ v 0 32 ∧ v 0 32 ≤ 24) (k1 : 0 ≤ x ∧ x < v 0 32 → Q (0, 1) v (gHd K) t) (k0 : ¬ (0 ≤ x ∧ x < v 0 32) → Q (0, 0) v (gHd K) t) : Ctr Γ mX0_isTree [(2, 0), (0, x)] v (gHd K) t Q := by
  refine Ctr.ofG (ls := [(2, 0), (0, x)]) rfl rfl rfl rfl rfl ?_
  refine Gx_iload_n (i := 1) dX0_isTree_0 rfl rfl ?_
  refine Gx_iconst ⟨by decide, by decide⟩ dX0_isTree_1 ?_
  refine Gx_aload_n (i := 0) dX0_isTree_2 rfl rfl ?_
  refine gf_X0_276_20 dX0_isTree_3 rfl rfl ?_
  refine Gx_iconst ⟨by decide, by decide⟩ dX0_isTree_6 ?_
  refine Gx_isub dX0_isTree_7 ?_
  try simp (disch := omega) only [w32_id]
  refine cl_X0_129 dX0_isTree_8 rfl ⟨(Nat.le_of_ble_eq_true rfl), (Nat.le_of_ble_eq_true rfl)⟩ rfl ?_
  refine ct_X0_isIn (fun hr => ?_) (fun hr => ?_)
  · refine Gx_ireturn dX0_isTree_11 (Or.inr rfl) ?_
    first
    | exact k1 (by omega)
    | exact k0 (by omega)
  · refine Gx_ireturn dX0_isTree_11 (Or.inl rfl) ?_
    first
    | exact k1 (by omega)
    | exact k0 (by omega)
theorem ct_X0_areEaters {x : Int} (hn : 0 ≤ v 0 12 ∧ v 0 12 ≤ 2) (k1 : 0 ≤ x ∧ x < v 0 12 → Q (0, 1) v (gHd K) t) (k0 : ¬ (0 ≤ x ∧ x < v 0 12) → Q (0, 0) v (gHd K) t) : Ctr Γ mX0_areEaters [(2, 0), (0, x)] v (gHd K) t Q := by
  refine Ctr.ofG (ls := [(2, 0), (0, x)]) rfl rfl rfl rfl rfl ?_
  refine Gx_iload_n (i := 1) dX0_areEaters_0 rfl rfl ?_
  refine Gx_iconst ⟨by decide, by decide⟩ dX0_areEaters_1 ?_
  refine Gx_aload_n (i := 0) dX0_areEaters_2 rfl rfl ?_
  refine gf_X0_273_20 dX0_areEaters_3 rfl rfl ?_
  refine Gx_iconst ⟨by decide, by decide⟩ dX0_areEaters_6 ?_
  refine Gx_isub dX0_areEaters_7 ?_
  try simp (disch := omega) only [w32_id]
  refine cl_X0_129 dX0_areEaters_8 rfl ⟨(Nat.le_of_ble_eq_true rfl), (Nat.le_of_ble_eq_true rfl)⟩ rfl ?_
  refine ct_X0_isIn (fun hr => ?_) (fun hr => ?_)
  · refine Gx_ireturn dX0_areEaters_11 (Or.inr rfl) ?_
    first
    | exact k1 (by omega)
    | exact k0 (by omega)
  · refine Gx_ireturn dX0_areEaters_11 (Or.inl rfl) ?_
    first
    | exact k1 (by omega)
    | exact k0 (by omega)
theorem ct_X0_isSort {x n : Int} (hh : gHd K (v 0 7) = (17, n)) (hn : 0 ≤ n ∧ n ≤ 6) (k1 : 0 ≤ x ∧ x < n → Q (0, 1) v (gHd K) t) (k0 : ¬ (0 ≤ x ∧ x < n) → Q (0, 0) v (gHd K) t) : Ctr Γ mX0_isSort [(2, 0), (0, x)] v (gHd K) t Q := by
  refine Ctr.ofG (ls := [(2, 0), (0, x)]) rfl rfl rfl rfl rfl ?_
  refine Gx_iload_n (i := 1) dX0_isSort_0 rfl rfl ?_
  refine Gx_iconst ⟨by decide, by decide⟩ dX0_isSort_1 ?_
  refine Gx_aload_n (i := 0) dX0_isSort_2 rfl rfl ?_
  refine gf_X0_40_20 dX0_isSort_3 rfl rfl ?_
  refine Gx_alen dX0_isSort_6 hh (by decide) (by decide) ?_
  refine Gx_iconst ⟨by decide, by decide⟩ dX0_isSort_7 ?_
  refine Gx_isub dX0_isSort_8 ?_
  try simp (disch := omega) only [w32_id]
  refine cl_X0_129 dX0_isSort_9 rfl ⟨(Nat.le_of_ble_eq_true rfl), (Nat.le_of_ble_eq_true rfl)⟩ rfl ?_
  refine ct_X0_isIn (fun hr => ?_) (fun hr => ?_)
  · refine Gx_ireturn dX0_isSort_12 (Or.inr rfl) ?_
    first
    | exact k1 (by omega)
    | exact k0 (by omega)
  · refine Gx_ireturn dX0_isSort_12 (Or.inl rfl) ?_
    first
    | exact k1 (by omega)
    | exact k0 (by omega)
theorem ct_X0_sortOf {i n s m : Int} (hh : gHd K (v 0 7) = (17, n)) (hi : 0 ≤ i ∧ i < 24) (ht : gHd K (v 16 i) = (8, m)) (hs : v (v 16 i) 0 = s) (hsn : 0 ≤ s ∧ s < n) (k : Q (2, v (v 0 7) s) v (gHd K) t) : Ctr Γ mX0_sortOf [(2, 0), (0, i)] v (gHd K) t Q := by
  refine Ctr.ofG (ls := [(2, 0), (0, i)]) rfl rfl rfl rfl rfl ?_
  refine Gx_aload_n (i := 0) dX0_sortOf_0 rfl rfl ?_
  refine gf_X0_40_20 dX0_sortOf_1 rfl rfl ?_
  refine Gx_aload_n (i := 0) dX0_sortOf_4 rfl rfl ?_
  refine gf_X0_79_20 dX0_sortOf_5 rfl rfl ?_
  refine Gx_iload_n (i := 1) dX0_sortOf_8 rfl rfl ?_
  refine Gx_aaload18 dX0_sortOf_9 rfl (by first | omega | (simp (disch := omega) only [w32_id]; omega)) ?_
  refine gf_X0_321_8 dX0_sortOf_10 rfl ht ?_
  rw [hs]
  refine Gx_aaload17 dX0_sortOf_13 hh (by first | omega | (simp (disch := omega) only [w32_id]; omega)) ?_
  refine Gx_areturn dX0_sortOf_14 rfl ?_
  exact k
/-- the half that a wood is cut by, none being 0 -/
abbrev aHf (v : gM) : Int := if 0 ≤ v 0 36 then v 0 36 else 0

theorem ct_X0_halfOf {i : Int} (hi : 0 ≤ i ∧ i < 32) (k : Q (0, if gHas (aHf v) i = true then 1 else 0) v (gHd K) t) : Ctr Γ mX0_halfOf [(2, 0), (0, i)] v (gHd K) t Q := by
  refine Ctr.ofG (ls := [(2, 0), (0, i)]) rfl rfl rfl rfl rfl ?_
  refine Gx_aload_n (i := 0) dX0_halfOf_0 rfl rfl ?_
  refine gf_X0_96_20 dX0_halfOf_1 rfl rfl ?_
  unfold aHf at k
  refine Gx_if_lt (tgt := 22) dX0_halfOf_4 (by decide) (fun c4 => ?_) (fun c4 => ?_)
  · refine Gx_iconst ⟨by decide, by decide⟩ dX0_halfOf_22 ?_
    refine Gx_ireturn dX0_halfOf_23 trivial ?_
    first
    | (rw [if_pos (show 0 ≤ v 0 36 by omega), hz] at k; exact k)
    | (rw [if_neg (show ¬ 0 ≤ v 0 36 by omega), has_0] at k; exact k)
  · refine Gx_aload_n (i := 0) dX0_halfOf_7 rfl rfl ?_
    refine gf_X0_96_20 dX0_halfOf_8 rfl rfl ?_
    refine Gx_iload_n (i := 1) dX0_halfOf_11 rfl rfl ?_
    refine cl_X0_345 dX0_halfOf_12 rfl ⟨(Nat.le_of_ble_eq_true rfl), (Nat.le_of_ble_eq_true rfl)⟩ rfl ?_
    refine ct_X0_has hi (fun hz => ?_) (fun hz => ?_)
    · refine Gx_if_eq (tgt := 22) dX0_halfOf_15 (by decide) (fun hz => absurd hz (by decide)) (fun _ => ?_)
      refine Gx_iconst ⟨by decide, by decide⟩ dX0_halfOf_18 ?_
      refine Gx_goto (tgt := 23) dX0_halfOf_19 (by decide) ?_
      refine Gx_ireturn dX0_halfOf_23 trivial ?_
      first
      | (rw [if_pos (show 0 ≤ v 0 36 by omega), hz] at k; exact k)
      | (rw [if_neg (show ¬ 0 ≤ v 0 36 by omega), has_0] at k; exact k)
    · refine Gx_if_eq (tgt := 22) dX0_halfOf_15 (by decide) (fun _ => ?_) (fun hz => absurd hz (by decide))
      refine Gx_iconst ⟨by decide, by decide⟩ dX0_halfOf_22 ?_
      refine Gx_ireturn dX0_halfOf_23 trivial ?_
      first
      | (rw [if_pos (show 0 ≤ v 0 36 by omega), hz] at k; exact k)
      | (rw [if_neg (show ¬ 0 ≤ v 0 36 by omega), has_0] at k; exact k)
theorem ct_X0_mayOf {y n : Int} (hh : gHd K (v 0 8) = (11, n)) (hn : 1 ≤ n ∧ n ≤ 80) (hy : 1 ≤ y ∧ y ≤ 1000000) (k : Q (0, v (v 0 8) ((y - 1) % n)) v (gHd K) t) : Ctr Γ mX0_mayOf [(2, 0), (0, y)] v (gHd K) t Q := by
  refine Ctr.ofG (ls := [(2, 0), (0, y)]) rfl rfl rfl rfl rfl ?_
  refine Gx_aload_n (i := 0) dX0_mayOf_0 rfl rfl ?_
  refine gf_X0_126_20 dX0_mayOf_1 rfl rfl ?_
  refine Gx_iload_n (i := 1) dX0_mayOf_4 rfl rfl ?_
  refine Gx_iconst ⟨by decide, by decide⟩ dX0_mayOf_5 ?_
  refine Gx_isub dX0_mayOf_6 ?_
  try simp (disch := omega) only [w32_id]
  refine Gx_aload_n (i := 0) dX0_mayOf_7 rfl rfl ?_
  refine gf_X0_126_20 dX0_mayOf_8 rfl rfl ?_
  refine Gx_alen dX0_mayOf_11 hh (by decide) (by decide) ?_
  refine Gx_irem dX0_mayOf_12 (by first | omega | (simp (disch := omega) only [w32_id]; omega)) ?_
  rw [Int.tmod_eq_emod_of_nonneg (by omega)]
  have e0 := Int.emod_nonneg (y - 1) (show n ≠ 0 by omega)
  have e1 := Int.emod_lt_of_pos (y - 1) (show 0 < n by omega)
  refine Gx_baload dX0_mayOf_13 hh (by first | omega | (simp (disch := omega) only [w32_id]; omega)) ?_
  refine Gx_ireturn dX0_mayOf_14 trivial ?_
  exact k
end
