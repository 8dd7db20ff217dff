/-- the headers once both systems stand: the first 66 cells, and K behind them -/
def gHd0 : List (Nat × Int) := [(20, 0), (10, 6), (15, 6), (16, 4), (17, 0), (10, 3), (10, 2), (10, 2), (10, 2), (10, 2), (17, 6), (10, 3), (10, 2), (10, 2), (10, 2), (10, 2), (18, 24), (21, 0), (10, 24), (10, 2), (12, 24), (10, 24), (12, 2), (21, 0), (10, 24), (10, 2), (12, 24), (10, 24), (12, 2), (10, 2), (10, 2), (13, 54027), (13, 8192), (14, 24), (14, 24), (10, 2), (10, 2000), (11, 1), (22, 0), (10, 6), (10, 6), (10, 480), (10, 80), (10, 4), (11, 320), (10, 42), (10, 8), (10, 2), (10, 8), (10, 3), (10, 42), (10, 2), (10, 2), (10, 2), (10, 8), (10, 3), (10, 2), (10, 24), (10, 24), (10, 24), (10, 24), (10, 24), (12, 2), (10, 81), (10, 75), (10, 6)]
def gHd (K : gH) : gH := fun a => if 0 ≤ a ∧ a < 66 then gHd0.getD a.toNat (99, 0) else K a
theorem w32_id {x : Int} (h1 : -2147483648 ≤ x) (h2 : x < 2147483648) : w32 x = x := w32_of ⟨h1, h2⟩
theorem w64_id {x : Int} (h1 : -9223372036854775808 ≤ x) (h2 : x < 9223372036854775808) : w64 x = x := w64_of ⟨h1, h2⟩
theorem gCmp_cases (x y : Int) : (x < y ∧ gCmp x y = -1) ∨ (x = y ∧ gCmp x y = 0) ∨ (y < x ∧ gCmp x y = 1) := by
  unfold gCmp
  by_cases h1 : y < x
  · simp [h1]
  · by_cases h2 : x = y
    · simp [h2]
    · simp [h1, h2]; omega
theorem Gx_name {Γ : gC} {M : gI} {pc : Nat} {ls st : List gV} {v : gM} {h : gH} {t bc bs : Nat} {Q : gQ} (k : ∀ v', v' = v → Gx Γ M pc ls st v' h t bc bs Q) : Gx Γ M pc ls st v h t bc bs Q := k v rfl
theorem Gx_lcmpif_eq {Γ : gC} {M : gI} {pc : Nat} {ls st : List gV} {v : gM} {h : gH} {t bc bs : Nat} {Q : gQ} {x y off : Int} {tgt : Nat} (d : decode M.2.1 pc = .ok (.lcmp, 1)) (d2 : decode M.2.1 (pc + 1) = .ok (.ifCond .eq off, 3)) (ht : ((pc + 1 : Nat) : Int) + off = (tgt : Int)) (k1 : x = y → Gx Γ M tgt ls st v h t bc bs Q) (k2 : x ≠ y → Gx Γ M (pc + 1 + 3) ls st v h t bc bs Q) : Gx Γ M pc ls ((1, y) :: (1, x) :: st) v h t bc bs Q := by
  refine Gx_lcmp d ?_
  have hc := gCmp_cases x y
  exact Gx_if_eq d2 ht (fun q => k1 (by omega)) (fun q => k2 (by omega))
theorem Gx_lcmpif_ne {Γ : gC} {M : gI} {pc : Nat} {ls st : List gV} {v : gM} {h : gH} {t bc bs : Nat} {Q : gQ} {x y off : Int} {tgt : Nat} (d : decode M.2.1 pc = .ok (.lcmp, 1)) (d2 : decode M.2.1 (pc + 1) = .ok (.ifCond .ne off, 3)) (ht : ((pc + 1 : Nat) : Int) + off = (tgt : Int)) (k1 : x ≠ y → Gx Γ M tgt ls st v h t bc bs Q) (k2 : x = y → Gx Γ M (pc + 1 + 3) ls st v h t bc bs Q) : Gx Γ M pc ls ((1, y) :: (1, x) :: st) v h t bc bs Q := by
  refine Gx_lcmp d ?_
  have hc := gCmp_cases x y
  exact Gx_if_ne d2 ht (fun q => k1 (by omega)) (fun q => k2 (by omega))
theorem Gx_lcmpif_lt {Γ : gC} {M : gI} {pc : Nat} {ls st : List gV} {v : gM} {h : gH} {t bc bs : Nat} {Q : gQ} {x y off : Int} {tgt : Nat} (d : decode M.2.1 pc = .ok (.lcmp, 1)) (d2 : decode M.2.1 (pc + 1) = .ok (.ifCond .lt off, 3)) (ht : ((pc + 1 : Nat) : Int) + off = (tgt : Int)) (k1 : x < y → Gx Γ M tgt ls st v h t bc bs Q) (k2 : y ≤ x → Gx Γ M (pc + 1 + 3) ls st v h t bc bs Q) : Gx Γ M pc ls ((1, y) :: (1, x) :: st) v h t bc bs Q := by
  refine Gx_lcmp d ?_
  have hc := gCmp_cases x y
  exact Gx_if_lt d2 ht (fun q => k1 (by omega)) (fun q => k2 (by omega))
theorem Gx_lcmpif_ge {Γ : gC} {M : gI} {pc : Nat} {ls st : List gV} {v : gM} {h : gH} {t bc bs : Nat} {Q : gQ} {x y off : Int} {tgt : Nat} (d : decode M.2.1 pc = .ok (.lcmp, 1)) (d2 : decode M.2.1 (pc + 1) = .ok (.ifCond .ge off, 3)) (ht : ((pc + 1 : Nat) : Int) + off = (tgt : Int)) (k1 : y ≤ x → Gx Γ M tgt ls st v h t bc bs Q) (k2 : x < y → Gx Γ M (pc + 1 + 3) ls st v h t bc bs Q) : Gx Γ M pc ls ((1, y) :: (1, x) :: st) v h t bc bs Q := by
  refine Gx_lcmp d ?_
  have hc := gCmp_cases x y
  exact Gx_if_ge d2 ht (fun q => k1 (by omega)) (fun q => k2 (by omega))
theorem Gx_lcmpif_gt {Γ : gC} {M : gI} {pc : Nat} {ls st : List gV} {v : gM} {h : gH} {t bc bs : Nat} {Q : gQ} {x y off : Int} {tgt : Nat} (d : decode M.2.1 pc = .ok (.lcmp, 1)) (d2 : decode M.2.1 (pc + 1) = .ok (.ifCond .gt off, 3)) (ht : ((pc + 1 : Nat) : Int) + off = (tgt : Int)) (k1 : y < x → Gx Γ M tgt ls st v h t bc bs Q) (k2 : x ≤ y → Gx Γ M (pc + 1 + 3) ls st v h t bc bs Q) : Gx Γ M pc ls ((1, y) :: (1, x) :: st) v h t bc bs Q := by
  refine Gx_lcmp d ?_
  have hc := gCmp_cases x y
  exact Gx_if_gt d2 ht (fun q => k1 (by omega)) (fun q => k2 (by omega))
theorem Gx_lcmpif_le {Γ : gC} {M : gI} {pc : Nat} {ls st : List gV} {v : gM} {h : gH} {t bc bs : Nat} {Q : gQ} {x y off : Int} {tgt : Nat} (d : decode M.2.1 pc = .ok (.lcmp, 1)) (d2 : decode M.2.1 (pc + 1) = .ok (.ifCond .le off, 3)) (ht : ((pc + 1 : Nat) : Int) + off = (tgt : Int)) (k1 : x ≤ y → Gx Γ M tgt ls st v h t bc bs Q) (k2 : y < x → Gx Γ M (pc + 1 + 3) ls st v h t bc bs Q) : Gx Γ M pc ls ((1, y) :: (1, x) :: st) v h t bc bs Q := by
  refine Gx_lcmp d ?_
  have hc := gCmp_cases x y
  exact Gx_if_le d2 ht (fun q => k1 (by omega)) (fun q => k2 (by omega))
