/-! what the heap tells of the memory; trees planted -/
section
variable {Γ : gC} {v : gM} {K : gH} {t : Nat} {Q : gQ}
/-- beyond the cells that are made nothing is known -/
abbrev gTop (h : gH) (t : Nat) : Prop := ∀ a : Int, a < 0 ∨ (t : Int) ≤ a → h a = (99, 0)
theorem Gx_top {M : gI} {pc : Nat} {ls st : List gV} {h : gH} {bc bs : Nat} (k : gTop h t → Gx Γ M pc ls st v h t bc bs Q) : Gx Γ M pc ls st v h t bc bs Q :=
  fun p e R s m args below meth c Z Cx H locs cells slots lsa h1 h2 h3 h4 h5 h6 h7 => k h1.2.2.1 p e R s m args below meth c Z Cx H locs cells slots lsa h1 h2 h3 h4 h5 h6 h7
/-- an array's places hold what its type allows -/
abbrev gRng (v : gM) (h : gH) (t : Nat) : Prop := ∀ (a : Int) (k : Nat) (n j : Int), h a = (k, n) → 10 ≤ k → k ≤ 18 → 0 ≤ j → j < n → gRt t (gEt k) (v a j)
theorem Gx_rng {M : gI} {pc : Nat} {ls st : List gV} {h : gH} {bc bs : Nat} (k : gRng v h t → Gx Γ M pc ls st v h t bc bs Q) : Gx Γ M pc ls st v h t bc bs Q := by
  intro p e R s m args below meth c Z Cx H locs cells slots lsa h1 h2 h3 h4 h5 h6 h7
  refine k ?_ p e R s m args below meth c Z Cx H locs cells slots lsa h1 h2 h3 h4 h5 h6 h7
  intro a kk n j ha k0 k1 j0 j1
  have hin := gR_in h1 ha (by show kk ≠ 99; omega)
  have hA := h1.2.2.2 a hin.1 hin.2
  unfold gAt at hA
  rw [ha] at hA
  exact (hA.2 k0 k1).2.2.2 j j0 j1
theorem gHd_up {K : gH} {a : Int} {n : Nat × Int} (ha : 66 ≤ a) : gUpH (gHd K) a n = gHd (gUpH K a n) := by
  funext b
  by_cases hb : b = a
  · subst hb
    rw [gUpH_at]
    unfold gHd
    rw [if_neg (by omega)]
    exact gUpH_at.symm
  · rw [gUpH_ne hb]
    unfold gHd
    by_cases h6 : 0 ≤ b ∧ b < 66
    · rw [if_pos h6, if_pos h6]
    · rw [if_neg h6, if_neg h6]
      exact (gUpH_ne hb).symm
theorem gHd_at {K : gH} {a : Int} {n : Nat × Int} (ha : 66 ≤ a) : gHd (gUpH K a n) a = n := by
  unfold gHd
  rw [if_neg (by omega)]
  exact gUpH_at
theorem gHd_ne {K : gH} {a b : Int} {n : Nat × Int} (hb : b ≠ a) : gHd (gUpH K a n) b = gHd K b := by
  unfold gHd
  by_cases h6 : 0 ≤ b ∧ b < 66
  · rw [if_pos h6, if_pos h6]
  · rw [if_neg h6, if_neg h6]
    exact gUpH_ne hb
theorem gHd_lt {K : gH} {a : Int} {t : Nat} (hT : gTop (gHd K) t) (ha : (gHd K a).1 ≠ 99) : 0 ≤ a ∧ a < t := by
  by_cases h1 : a < 0 ∨ (t : Int) ≤ a
  · rw [hT a h1] at ha
    exact absurd rfl ha
  · omega
theorem gHd_lh {K : gH} {a n : Int} {k : Nat} {t : Nat} (hT : gTop (gHd K) t) (ha : gHd K a = (k, n)) (hk : k ≠ 99) : 0 ≤ a ∧ a < t := gHd_lt hT (by rw [ha]; exact hk)
theorem gHd_66 {K : gH} {t : Nat} (hT : gTop (gHd K) t) : 66 ≤ t := by
  have := (gHd_lt (a := 65) hT (by rw [show gHd K 65 = (10, 6) from rfl]; decide)).2
  omega
/-- what A meets -/
abbrev aMet (v : gM) (f : Int) : gM := gUp (gUp v 0 0 f) 1 f (w32 (v 1 f + 1))
/-- a tree is planted: its cell is c -/
def oNt (v v1 : gM) (c s x : Int) : Prop := v1 c 0 = s ∧ v1 c 1 = 0 ∧ v1 c 2 = -9 ∧ v1 16 (v 0 32) = c ∧ v1 18 (v 0 32) = x ∧ v1 0 32 = v 0 32 + 1 ∧ ∀ a k, ¬ (a = c ∨ ((a = 16 ∨ a = 18) ∧ k = v 0 32) ∨ (a = 0 ∧ k = 32)) → v1 a k = v a k

theorem ct_X9_init {h : gH} {o n s : Int} (hh : h o = (8, n)) (k : Q (9, 0) (gUp (gUp v o 2 (-9)) o 0 s) h t) : Ctr Γ mX9_init [(2, o), (0, s)] v h t Q := by
  refine Ctr.ofG (ls := [(2, o), (0, s)]) rfl rfl rfl rfl rfl ?_
  refine Gx_aload_n (i := 0) dX9_init_0 rfl rfl ?_
  refine cl_X9_3 dX9_init_1 rfl hh (by decide) ⟨(Nat.le_of_ble_eq_true rfl), (Nat.le_of_ble_eq_true rfl)⟩ rfl ?_
  refine Gx_aload_n (i := 0) dX9_init_4 rfl rfl ?_
  refine Gx_bipush dX9_init_5 ⟨by decide, by decide⟩ ?_
  refine pf_X9_9_8 dX9_init_7 rfl hh ?_
  refine Gx_aload_n (i := 0) dX9_init_10 rfl rfl ?_
  refine Gx_iload_n (i := 1) dX9_init_11 rfl rfl ?_
  refine pf_X9_15_8 dX9_init_12 rfl hh ?_
  refine Gx_return dX9_init_15 rfl ?_
  exact k
theorem ct_X0_newTree {s x : Int} (h66 : 66 ≤ t) (hn : 0 ≤ v 0 32 ∧ v 0 32 < 24) (k : ∀ v1, oNt v v1 t s x → Q (0, v 0 32) v1 (gHd (gUpH K t (8, 0))) (t + 1)) : Ctr Γ mX0_newTree [(2, 0), (0, s), (0, x)] v (gHd K) t Q := by
  refine Ctr.ofG (ls := [(2, 0), (0, s), (0, x)]) rfl rfl rfl rfl rfl ?_
  refine Gx_aload_n (i := 0) dX0_newTree_0 rfl rfl ?_
  refine gf_X0_79_20 dX0_newTree_1 rfl rfl ?_
  refine Gx_aload_n (i := 0) dX0_newTree_4 rfl rfl ?_
  refine gf_X0_276_20 dX0_newTree_5 rfl rfl ?_
  refine Gx_new (k := 8) (C := RX9) (T := TX9) (N := 3) (bc' := 0) (bs' := 0) dX0_newTree_8 rfl (by decide) rfl in_X9 tyX9_ok (by decide) q143 q699 q127 (by decide) (by decide) ?_
  rw [gHd_up (by omega)]
  refine Gx_dup (Nat.ne_of_beq_eq_false rfl) dX0_newTree_11 ?_
  refine Gx_iload_n (i := 1) dX0_newTree_12 rfl rfl ?_
  refine cl_X0_285_8 dX0_newTree_13 rfl (gHd_at (by omega)) ⟨(Nat.le_of_ble_eq_true rfl), (Nat.le_of_ble_eq_true rfl)⟩ rfl ?_
  refine ct_X9_init (gHd_at (by omega)) ?_
  refine Gx_aast18 dX0_newTree_16 rfl (by omega) (gHd_at (by omega)) ?_
  refine Gx_aload_n (i := 0) dX0_newTree_17 rfl rfl ?_
  refine gf_X0_86_20 dX0_newTree_18 rfl rfl ?_
  refine gf_X0_288_21 dX0_newTree_21 rfl rfl ?_
  refine Gx_aload_n (i := 0) dX0_newTree_24 rfl rfl ?_
  refine gf_X0_276_20 dX0_newTree_25 rfl rfl ?_
  simp (disch := omega) only [gUp_ne2, gUp_eq2, gNf_ne]
  refine Gx_iload_n (i := 2) dX0_newTree_28 rfl rfl ?_
  refine Gx_iastore dX0_newTree_29 rfl (by first | omega | (simp (disch := omega) only [w32_id]; omega)) ?_
  refine Gx_aload_n (i := 0) dX0_newTree_30 rfl rfl ?_
  refine Gx_dup (Nat.ne_of_beq_eq_false rfl) dX0_newTree_31 ?_
  refine gf_X0_276_20 dX0_newTree_32 rfl rfl ?_
  refine Gx_iconst ⟨by decide, by decide⟩ dX0_newTree_35 ?_
  simp (disch := omega) only [gUp_ne2, gUp_eq2, gNf_ne]
  refine Gx_iadd dX0_newTree_36 ?_
  try simp (disch := omega) only [w32_id]
  refine pf_X0_276_20 dX0_newTree_37 rfl rfl ?_
  refine Gx_aload_n (i := 0) dX0_newTree_40 rfl rfl ?_
  refine gf_X0_276_20 dX0_newTree_41 rfl rfl ?_
  simp (disch := omega) only [gUp_ne2, gUp_eq2, gNf_ne]
  refine Gx_iconst ⟨by decide, by decide⟩ dX0_newTree_44 ?_
  refine Gx_isub dX0_newTree_45 ?_
  try simp (disch := omega) only [w32_id]
  refine Gx_ireturn dX0_newTree_46 trivial ?_
  rw [show v 0 32 + 1 - 1 = v 0 32 by omega]
  refine k _ ⟨?_, ?_, ?_, ?_, ?_, ?_, fun a b hk => ?_⟩
  · simp (disch := omega) only [gUp_ne2, gUp_eq2, gNf_ne]
  · simp (disch := omega) only [gUp_ne2, gUp_eq2, gNf_at]
    rfl
  · simp (disch := omega) only [gUp_ne2, gUp_eq2]
  · simp (disch := omega) only [gUp_ne2, gUp_eq2]
  · simp (disch := omega) only [gUp_ne2, gUp_eq2]
  · simp (disch := omega) only [gUp_ne2, gUp_eq2]
  · simp (disch := omega) only [gUp_ne2, gNf_ne]
theorem ct_X0_plant {s x m : Int} (hh : gHd K (v 0 7) = (17, m)) (hm : 0 ≤ m ∧ m ≤ 6) (h66 : 66 ≤ t) (hn : 0 ≤ v 0 32 ∧ v 0 32 ≤ 24) (kB : ¬ ((0 ≤ s ∧ s < m) ∧ 0 ≤ x ∧ x ≤ 60) → Q (0, -1) v (gHd K) t) (kF : (0 ≤ s ∧ s < m) ∧ 0 ≤ x ∧ x ≤ 60 → v 0 32 = 24 → Q (0, -2) v (gHd K) t) (kO : (0 ≤ s ∧ s < m) ∧ 0 ≤ x ∧ x ≤ 60 → v 0 32 < 24 → ∀ v1, oNt v v1 t s x → Q (0, v 0 32) v1 (gHd (gUpH K t (8, 0))) (t + 1)) : Ctr Γ mX0_plant [(2, 0), (0, s), (0, x)] v (gHd K) t Q := by
  refine Ctr.ofG (ls := [(2, 0), (0, s), (0, x)]) rfl rfl rfl rfl rfl ?_
  refine Gx_aload_n (i := 0) dX0_plant_0 rfl rfl ?_
  refine Gx_iload_n (i := 1) dX0_plant_1 rfl rfl ?_
  refine cl_X0_291 dX0_plant_2 rfl rfl ⟨(Nat.le_of_ble_eq_true rfl), (Nat.le_of_ble_eq_true rfl)⟩ rfl ?_
  refine ct_X0_isSort hh hm (fun hs => ?_) (fun hs => ?_)
  · refine Gx_if_eq (tgt := 18) dX0_plant_5 (by decide) (fun hz => absurd hz (by decide)) (fun _ => ?_)
    refine Gx_iload_n (i := 2) dX0_plant_8 rfl rfl ?_
    refine Gx_iconst ⟨by decide, by decide⟩ dX0_plant_9 ?_
    refine Gx_bipush dX0_plant_10 ⟨by decide, by decide⟩ ?_
    refine cl_X0_129 dX0_plant_12 rfl ⟨(Nat.le_of_ble_eq_true rfl), (Nat.le_of_ble_eq_true rfl)⟩ rfl ?_
    refine ct_X0_isIn (fun hx => ?_) (fun hx => ?_)
    · refine Gx_if_ne (tgt := 20) dX0_plant_15 (by decide) (fun _ => ?_) (fun hz => absurd hz (by decide))
      refine Gx_aload_n (i := 0) dX0_plant_20 rfl rfl ?_
      refine gf_X0_276_20 dX0_plant_21 rfl rfl ?_
      refine Gx_bipush dX0_plant_24 ⟨by decide, by decide⟩ ?_
      refine Gx_icmp_ne (tgt := 34) dX0_plant_26 (by decide) (fun c26 => ?_) (fun c26 => ?_)
      · refine Gx_aload_n (i := 0) dX0_plant_34 rfl rfl ?_
        refine Gx_iload_n (i := 1) dX0_plant_35 rfl rfl ?_
        refine Gx_iload_n (i := 2) dX0_plant_36 rfl rfl ?_
        refine cl_X0_294 (bc' := 0) (bs' := 0) dX0_plant_37 rfl rfl ⟨(Nat.le_of_ble_eq_true rfl), (Nat.le_of_ble_eq_true rfl)⟩ rfl (by first | omega | decide) (by first | omega | decide) ?_
        refine ct_X0_newTree h66 (by omega) (fun v1 h1 => ?_)
        refine Gx_ireturn dX0_plant_40 trivial ?_
        first
        | exact kO ⟨hs, hx⟩ (by omega) v1 h1
        | exact kF ⟨hs, hx⟩ (by omega)
        | exact kB (by omega)
      · refine Gx_bipush dX0_plant_29 ⟨by decide, by decide⟩ ?_
        refine Gx_goto (tgt := 40) dX0_plant_31 (by decide) ?_
        refine Gx_ireturn dX0_plant_40 trivial ?_
        first
        | exact kO ⟨hs, hx⟩ (by omega) v1 h1
        | exact kF ⟨hs, hx⟩ (by omega)
        | exact kB (by omega)
    · refine Gx_if_ne (tgt := 20) dX0_plant_15 (by decide) (fun hz => absurd hz (by decide)) (fun _ => ?_)
      refine Gx_iconst ⟨by decide, by decide⟩ dX0_plant_18 ?_
      refine Gx_ireturn dX0_plant_19 trivial ?_
      first
      | exact kO ⟨hs, hx⟩ (by omega) v1 h1
      | exact kF ⟨hs, hx⟩ (by omega)
      | exact kB (by omega)
  · refine Gx_if_eq (tgt := 18) dX0_plant_5 (by decide) (fun _ => ?_) (fun hz => absurd hz (by decide))
    refine Gx_iconst ⟨by decide, by decide⟩ dX0_plant_18 ?_
    refine Gx_ireturn dX0_plant_19 trivial ?_
    first
    | exact kO ⟨hs, hx⟩ (by omega) v1 h1
    | exact kF ⟨hs, hx⟩ (by omega)
    | exact kB (by omega)
theorem ct_X0_about {s q : Int} (hW : aWf v (gHd K)) (kB : ¬ ((0 ≤ s ∧ s < (gHd K (v 0 7)).2) ∧ 0 ≤ q ∧ q ≤ 3) → Q (0, -1) v (gHd K) t) (k1 : (0 ≤ s ∧ s < (gHd K (v 0 7)).2) → 0 ≤ q ∧ q ≤ 3 → Q (0, 1) (gUp v 0 2 (if q < 3 then v (v (v (v 0 7) s) 0) q else aKd (gHd K (v (v 0 7) s)).1)) (gHd K) t) : Ctr Γ mX0_about [(2, 0), (0, s), (0, q)] v (gHd K) t Q := by
  refine Ctr.ofG (ls := [(2, 0), (0, s), (0, q)]) rfl rfl rfl rfl rfl ?_
  refine Gx_aload_n (i := 0) dX0_about_0 rfl rfl ?_
  refine Gx_iload_n (i := 1) dX0_about_1 rfl rfl ?_
  refine cl_X0_291 dX0_about_2 rfl rfl ⟨(Nat.le_of_ble_eq_true rfl), (Nat.le_of_ble_eq_true rfl)⟩ rfl ?_
  refine ct_X0_isSort (pairEq hW.1.2.1) hW.1.2.2 (fun hs => ?_) (fun hs => ?_)
  · refine Gx_if_eq (tgt := 31) dX0_about_5 (by decide) (fun hz => absurd hz (by decide)) (fun _ => ?_)
    refine Gx_iload_n (i := 2) dX0_about_8 rfl rfl ?_
    refine Gx_iconst ⟨by decide, by decide⟩ dX0_about_9 ?_
    refine Gx_iconst ⟨by decide, by decide⟩ dX0_about_10 ?_
    refine cl_X0_129 dX0_about_11 rfl ⟨(Nat.le_of_ble_eq_true rfl), (Nat.le_of_ble_eq_true rfl)⟩ rfl ?_
    refine ct_X0_isIn (fun hq => ?_) (fun hq => ?_)
    · refine Gx_if_eq (tgt := 31) dX0_about_14 (by decide) (fun hz => absurd hz (by decide)) (fun _ => ?_)
      refine Gx_aload_n (i := 0) dX0_about_17 rfl rfl ?_
      refine Gx_aload_n (i := 0) dX0_about_18 rfl rfl ?_
      refine Gx_iload_n (i := 1) dX0_about_19 rfl rfl ?_
      refine Gx_iload_n (i := 2) dX0_about_20 rfl rfl ?_
      refine cl_X0_303 dX0_about_21 rfl rfl ⟨(Nat.le_of_ble_eq_true rfl), (Nat.le_of_ble_eq_true rfl)⟩ rfl ?_
      refine ct_X0_aboutOf hW hs hq ?_
      refine Gx_iconst ⟨by decide, by decide⟩ dX0_about_24 ?_
      refine cl_X0_147 dX0_about_25 rfl rfl ⟨(Nat.le_of_ble_eq_true rfl), (Nat.le_of_ble_eq_true rfl)⟩ rfl ?_
      refine ct_X0_ask ?_
      refine Gx_goto (tgt := 32) dX0_about_28 (by decide) ?_
      refine Gx_ireturn dX0_about_32 trivial ?_
      first
      | exact k1 hs hq
      | exact kB (by omega)
    · refine Gx_if_eq (tgt := 31) dX0_about_14 (by decide) (fun _ => ?_) (fun hz => absurd hz (by decide))
      refine Gx_iconst ⟨by decide, by decide⟩ dX0_about_31 ?_
      refine Gx_ireturn dX0_about_32 trivial ?_
      first
      | exact k1 hs hq
      | exact kB (by omega)
  · refine Gx_if_eq (tgt := 31) dX0_about_5 (by decide) (fun _ => ?_) (fun hz => absurd hz (by decide))
    refine Gx_iconst ⟨by decide, by decide⟩ dX0_about_31 ?_
    refine Gx_ireturn dX0_about_32 trivial ?_
    first
    | exact k1 hs hq
    | exact kB (by omega)
end
