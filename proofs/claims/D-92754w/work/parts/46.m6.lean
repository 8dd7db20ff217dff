/-! AcornYearsModel reads eaters, the jay, a calendar, chances -/
section
variable {Γ : gC} {v : gM} {K : gH} {t : Nat} {Q : gQ}
def pEater (b : pB) (p : Int) : Except Int (Int × Int × Int × Int × Int) := do
  let (p, x0) ← pRd b 2 0 99 p
  let p ← pSg b 44 p
  let (p, x1) ← pRd b 1 1 9 p
  let p ← pSg b 44 p
  let (p, x2) ← pRd b 1 0 9 p
  let p ← pSg b 44 p
  let (p, x3) ← pRd b 1 0 9 p
  return (p, x0, x1, x2, x3)
def pJay (b : pB) (p : Int) : Except Int (Int × Int × Int) := do
  let (p, x0) ← pRd b 2 0 99 p
  let p ← pSg b 44 p
  let (p, x1) ← pRd b 2 0 12 p
  return (p, x0, x1)
def pChan (b : pB) (p : Int) : Except Int (Int × Int × Int × Int) := do
  let (p, x0) ← pRd b 2 0 12 p
  let p ← pSg b 44 p
  let (p, x1) ← pRd b 2 0 12 p
  let p ← pSg b 44 p
  let (p, x2) ← pRd b 2 0 12 p
  if x0 + x1 + x2 = 12 then return (p, x0, x1, x2) else .error p
def pCnt (b : pB) : Nat → Int → Int
  | 0, _ => 0
  | f + 1, p => if 48 ≤ b p ∧ b p ≤ 50 then 1 + pCnt b f (p + 1) else 0
theorem pCnt_le (b : pB) : ∀ (f : Nat) (p : Int), 0 ≤ pCnt b f p ∧ pCnt b f p ≤ f
  | 0, p => by unfold pCnt; omega
  | f + 1, p => by
    unfold pCnt
    have := pCnt_le b f (p + 1)
    split <;> omega

set_option maxHeartbeats 2000000 in
theorem ct_X2_readsJay {r q0 : Int} {b : pB} (hr : 0 ≤ r ∧ r ≤ 3) (hs : v 43 r ≤ 80) (hb : mB v r = b) (hq : v 38 10 = q0) (hp : 0 ≤ q0 ∧ q0 ≤ 400) (k1 : ∀ q x0 x1 v1, pJay b (q0 + 1) = .ok (q, x0, x1) → (∀ a j, ¬ ((a = 38 ∧ (j = 10 ∨ j = 11)) ∨ (a = 47 ∧ (j = 0 ∨ j = 1))) → v1 a j = v a j) → v1 38 10 = q → v1 47 0 = x0 → v1 47 1 = x1 → Q (0, 1) v1 (gHd K) t) (k0 : ∀ q v1, pJay b (q0 + 1) = .error q → (∀ a j, ¬ ((a = 38 ∧ (j = 10 ∨ j = 11)) ∨ (a = 47 ∧ (j = 0 ∨ j = 1))) → v1 a j = v a j) → v1 38 10 = q → Q (0, 0) v1 (gHd K) t) : Ctr Γ mX2_readsJay [(2, 38), (0, r)] v (gHd K) t Q := by
  refine Ctr.ofG (ls := [(2, 38), (0, r)]) rfl rfl rfl rfl rfl ?_
  refine Gx_aload_n (i := 0) dX2_readsJay_0 rfl rfl ?_
  refine Gx_dup (Nat.ne_of_beq_eq_false rfl) dX2_readsJay_1 ?_
  refine gf_X2_132_22 dX2_readsJay_2 rfl rfl ?_
  refine Gx_iconst ⟨by decide, by decide⟩ dX2_readsJay_5 ?_
  refine Gx_iadd dX2_readsJay_6 ?_
  try simp (disch := omega) only [w32_id]
  refine pf_X2_132_22 dX2_readsJay_7 rfl rfl ?_
  refine Gx_name (fun vS eS => ?_)
  have hFS : ∀ a j, ¬ (a = 38 ∧ j = 10) → vS a j = v a j := by
    intro a j hn
    rw [eS]
    simp (disch := omega) only [gUp_ne2, gUp_eq2]
  have hqS : vS 38 10 = q0 + 1 := by
    rw [eS]
    simp (disch := omega) only [gUp_ne2, gUp_eq2, hq]
  have hbS : mB vS r = b := mB_of (fun j => hFS 43 j (by omega)) (fun j => hFS 44 j (by omega)) hb
  have hsS : vS 43 r ≤ 80 := by rw [hFS 43 r (by omega)]; exact hs
  refine Gx_aload_n (i := 0) dX2_readsJay_10 rfl rfl ?_
  refine Gx_iload_n (i := 1) dX2_readsJay_11 rfl rfl ?_
  refine Gx_iconst ⟨by decide, by decide⟩ dX2_readsJay_12 ?_
  refine Gx_iconst ⟨by decide, by decide⟩ dX2_readsJay_13 ?_
  refine Gx_bipush dX2_readsJay_14 ⟨by decide, by decide⟩ ?_
  refine cl_X2_147 dX2_readsJay_16 rfl rfl ⟨(Nat.le_of_ble_eq_true rfl), (Nat.le_of_ble_eq_true rfl)⟩ rfl ?_
  refine ct_X2_readsP (q0 := (q0 + 1)) (f := 2) hr hsS hbS hqS (by omega) rfl (by omega) (fun qA xA vA cA bA hFA hqA hxA hbA hsA => ?_) (fun qA xA vA hzA cA bA hFA hqA hxA hbA hsA => ?_)
  · refine Gx_if_ne (tgt := 24) dX2_readsJay_19 (by decide) (fun _ => ?_) (fun hz => absurd hz (by decide))
    refine Gx_aload_n (i := 0) dX2_readsJay_24 rfl rfl ?_
    refine gf_X2_35_22 dX2_readsJay_25 rfl rfl ?_
    refine Gx_iconst ⟨by decide, by decide⟩ dX2_readsJay_28 ?_
    refine Gx_aload_n (i := 0) dX2_readsJay_29 rfl rfl ?_
    refine gf_X2_138_22 dX2_readsJay_30 rfl rfl ?_
    refine Gx_iastore dX2_readsJay_33 rfl (by first | omega | (simp (disch := omega) only [w32_id]; omega)) ?_
    refine Gx_name (fun vT eT => ?_)
    have hFT : ∀ a j, ¬ (a = 47 ∧ j = 0) → vT a j = vA a j := by
      intro a j hn
      rw [eT]
      simp (disch := omega) only [gUp_ne2, gUp_eq2]
    have hyT : vT 47 0 = xA := by
      rw [eT]
      simp (disch := omega) only [gUp_ne2, gUp_eq2, hxA, hqA]
    have hqT : vT 38 10 = qA := by
      rw [eT]
      simp (disch := omega) only [gUp_ne2, gUp_eq2, hxA, hqA]
    have hbT : mB vT r = b := mB_of (fun j => hFT 43 j (by omega)) (fun j => hFT 44 j (by omega)) hbA
    have hsT : vT 43 r ≤ 80 := by rw [hFT 43 r (by omega)]; exact hsA
    refine Gx_aload_n (i := 0) dX2_readsJay_34 rfl rfl ?_
    refine Gx_iload_n (i := 1) dX2_readsJay_35 rfl rfl ?_
    refine Gx_bipush dX2_readsJay_36 ⟨by decide, by decide⟩ ?_
    refine cl_X2_154 dX2_readsJay_38 rfl rfl ⟨(Nat.le_of_ble_eq_true rfl), (Nat.le_of_ble_eq_true rfl)⟩ rfl ?_
    refine ct_X2_signP (q0 := qA) hr hsT hbT hqT (by omega) (fun vG cG hFG hqG hbG hsG => ?_) (fun vG cG hFG hqG hbG hsG => ?_)
    · refine Gx_if_eq (tgt := 56) dX2_readsJay_41 (by decide) (fun hz => absurd hz (by decide)) (fun _ => ?_)
      refine Gx_aload_n (i := 0) dX2_readsJay_44 rfl rfl ?_
      refine Gx_iload_n (i := 1) dX2_readsJay_45 rfl rfl ?_
      refine Gx_iconst ⟨by decide, by decide⟩ dX2_readsJay_46 ?_
      refine Gx_iconst ⟨by decide, by decide⟩ dX2_readsJay_47 ?_
      refine Gx_bipush dX2_readsJay_48 ⟨by decide, by decide⟩ ?_
      refine cl_X2_147 dX2_readsJay_50 rfl rfl ⟨(Nat.le_of_ble_eq_true rfl), (Nat.le_of_ble_eq_true rfl)⟩ rfl ?_
      refine ct_X2_readsP (q0 := (qA + 1)) (f := 2) hr hsG hbG hqG (by omega) rfl (by omega) (fun qB xB vB cB bB hFB hqB hxB hbB hsB => ?_) (fun qB xB vB hzB cB bB hFB hqB hxB hbB hsB => ?_)
      · refine Gx_if_ne (tgt := 58) dX2_readsJay_53 (by decide) (fun _ => ?_) (fun hz => absurd hz (by decide))
        refine Gx_aload_n (i := 0) dX2_readsJay_58 rfl rfl ?_
        refine gf_X2_35_22 dX2_readsJay_59 rfl rfl ?_
        refine Gx_iconst ⟨by decide, by decide⟩ dX2_readsJay_62 ?_
        refine Gx_aload_n (i := 0) dX2_readsJay_63 rfl rfl ?_
        refine gf_X2_138_22 dX2_readsJay_64 rfl rfl ?_
        refine Gx_iastore dX2_readsJay_67 rfl (by first | omega | (simp (disch := omega) only [w32_id]; omega)) ?_
        refine Gx_iconst ⟨by decide, by decide⟩ dX2_readsJay_68 ?_
        refine Gx_ireturn dX2_readsJay_69 (Or.inr rfl) ?_
        first
          | (refine k1 qB xA xB _ ?_ ?_ ?_ ?_ ?_
             · simp [pJay, Bind.bind, Except.bind, Pure.pure, Except.pure, *]; done
             · intro a j hn; simp (disch := omega) only [gUp_ne2, gUp_eq2, hFA, hqA, hxA, hFG, hqG, hFB, hqB, hxB, hFT, hFS]; done
             · simp (disch := omega) only [gUp_ne2, gUp_eq2, hFA, hqA, hxA, hFG, hqG, hFB, hqB, hxB]; done
             · simp (disch := omega) only [gUp_ne2, gUp_eq2, hFA, hqA, hxA, hFG, hqG, hFB, hqB, hxB, hyT]; done
             · simp (disch := omega) only [gUp_ne2, gUp_eq2, hFA, hqA, hxA, hFG, hqG, hFB, hqB, hxB]; done)
      · refine Gx_if_ne (tgt := 58) dX2_readsJay_53 (by decide) (fun hz => absurd hz (by decide)) (fun _ => ?_)
        refine Gx_iconst ⟨by decide, by decide⟩ dX2_readsJay_56 ?_
        refine Gx_ireturn dX2_readsJay_57 (Or.inl rfl) ?_
        first
          | (refine k0 qB _ ?_ ?_ ?_
             · simp [pJay, Bind.bind, Except.bind, Pure.pure, Except.pure, *]; done
             · intro a j hn; simp (disch := omega) only [gUp_ne2, gUp_eq2, hFA, hqA, hxA, hFG, hqG, hFB, hqB, hxB, hFT, hFS]; done
             · exact hqB)
          | (refine k0 qA _ ?_ ?_ ?_
             · simp [pJay, Bind.bind, Except.bind, Pure.pure, Except.pure, *]; done
             · intro a j hn; simp (disch := omega) only [gUp_ne2, gUp_eq2, hFA, hqA, hxA, hFG, hqG, hFB, hqB, hxB, hFT, hFS]; done
             · exact hqG)
    · refine Gx_if_eq (tgt := 56) dX2_readsJay_41 (by decide) (fun _ => ?_) (fun hz => absurd hz (by decide))
      refine Gx_iconst ⟨by decide, by decide⟩ dX2_readsJay_56 ?_
      refine Gx_ireturn dX2_readsJay_57 (Or.inl rfl) ?_
      first
        | (refine k0 qB _ ?_ ?_ ?_
           · simp [pJay, Bind.bind, Except.bind, Pure.pure, Except.pure, *]; done
           · intro a j hn; simp (disch := omega) only [gUp_ne2, gUp_eq2, hFA, hqA, hxA, hFG, hqG, hFT, hFS]; done
           · exact hqB)
        | (refine k0 qA _ ?_ ?_ ?_
           · simp [pJay, Bind.bind, Except.bind, Pure.pure, Except.pure, *]; done
           · intro a j hn; simp (disch := omega) only [gUp_ne2, gUp_eq2, hFA, hqA, hxA, hFG, hqG, hFT, hFS]; done
           · exact hqG)
  · refine Gx_if_ne (tgt := 24) dX2_readsJay_19 (by decide) (fun hz => absurd hz (by decide)) (fun _ => ?_)
    refine Gx_iconst ⟨by decide, by decide⟩ dX2_readsJay_22 ?_
    refine Gx_ireturn dX2_readsJay_23 (Or.inl rfl) ?_
    first
      | (refine k0 qA _ ?_ ?_ ?_
         · simp [pJay, Bind.bind, Except.bind, Pure.pure, Except.pure, *]; done
         · intro a j hn; simp (disch := omega) only [gUp_ne2, gUp_eq2, hFA, hqA, hxA, hFS]; done
         · exact hqA)
set_option maxHeartbeats 4000000 in
theorem ct_X2_readsEater {r q0 n0 : Int} {b : pB} (hr : 0 ≤ r ∧ r ≤ 3) (hs : v 43 r ≤ 80) (hb : mB v r = b) (hq : v 38 10 = q0) (hp : 0 ≤ q0 ∧ q0 ≤ 400) (hn : v 38 14 = n0) (hn0 : 0 ≤ n0 ∧ n0 < 2) (k1 : ∀ q x0 x1 x2 x3 v1, pEater b (q0 + 1) = .ok (q, x0, x1, x2, x3) → (∀ a j, ¬ ((a = 38 ∧ (j = 10 ∨ j = 11 ∨ j = 14)) ∨ (a = 46 ∧ 4 * n0 ≤ j ∧ j ≤ 4 * n0 + 3)) → v1 a j = v a j) → v1 38 10 = q → v1 38 14 = n0 + 1 → v1 46 (4 * n0) = x0 → v1 46 (4 * n0 + 1) = x1 → v1 46 (4 * n0 + 2) = x2 → v1 46 (4 * n0 + 3) = x3 → Q (0, 1) v1 (gHd K) t) (k0 : ∀ q v1, pEater b (q0 + 1) = .error q → (∀ a j, ¬ ((a = 38 ∧ (j = 10 ∨ j = 11 ∨ j = 14)) ∨ (a = 46 ∧ 4 * n0 ≤ j ∧ j ≤ 4 * n0 + 3)) → v1 a j = v a j) → v1 38 10 = q → v1 38 14 = n0 → Q (0, 0) v1 (gHd K) t) : Ctr Γ mX2_readsEater [(2, 38), (0, r)] v (gHd K) t Q := by
  refine Ctr.ofG (ls := [(2, 38), (0, r), (9, 0), (9, 0)]) rfl rfl rfl rfl rfl ?_
  refine Gx_aload_n (i := 0) dX2_readsEater_0 rfl rfl ?_
  refine gf_X2_161_22 dX2_readsEater_1 rfl rfl ?_
  refine Gx_iconst ⟨by decide, by decide⟩ dX2_readsEater_4 ?_
  refine Gx_icmp_ne (tgt := 10) dX2_readsEater_5 (by decide) (fun c5 => ?_) (fun c5 => ?_)
  · refine Gx_aload_n (i := 0) dX2_readsEater_10 rfl rfl ?_
    refine Gx_dup (Nat.ne_of_beq_eq_false rfl) dX2_readsEater_11 ?_
    refine gf_X2_132_22 dX2_readsEater_12 rfl rfl ?_
    refine Gx_iconst ⟨by decide, by decide⟩ dX2_readsEater_15 ?_
    refine Gx_iadd dX2_readsEater_16 ?_
    try simp (disch := omega) only [w32_id]
    refine pf_X2_132_22 dX2_readsEater_17 rfl rfl ?_
    refine Gx_name (fun vS eS => ?_)
    have hFS : ∀ a j, ¬ (a = 38 ∧ j = 10) → vS a j = v a j := by
      intro a j hn
      rw [eS]
      simp (disch := omega) only [gUp_ne2, gUp_eq2]
    have hqS : vS 38 10 = q0 + 1 := by
      rw [eS]
      simp (disch := omega) only [gUp_ne2, gUp_eq2, hq]
    have hbS : mB vS r = b := mB_of (fun j => hFS 43 j (by omega)) (fun j => hFS 44 j (by omega)) hb
    have hsS : vS 43 r ≤ 80 := by rw [hFS 43 r (by omega)]; exact hs
    have hnS : vS 38 14 = n0 := by rw [hFS 38 14 (by omega)]; exact hn
    refine Gx_iconst ⟨by decide, by decide⟩ dX2_readsEater_20 ?_
    refine Gx_aload_n (i := 0) dX2_readsEater_21 rfl rfl ?_
    refine gf_X2_161_22 dX2_readsEater_22 rfl rfl ?_
    rw [hnS]
    refine Gx_imul dX2_readsEater_25 ?_
    try simp (disch := omega) only [w32_id]
    refine Gx_istore_n_2 dX2_readsEater_26 (Nat.le_of_ble_eq_true rfl) (Nat.ne_of_beq_eq_false rfl) ?_
    refine Gx_iconst ⟨by decide, by decide⟩ dX2_readsEater_27 ?_
    refine Gx_istore_n_3 dX2_readsEater_28 (Nat.le_of_ble_eq_true rfl) (Nat.ne_of_beq_eq_false rfl) ?_
    refine Gx_iload_n (i := 3) dX2_readsEater_29 rfl rfl ?_
    refine Gx_iconst ⟨by decide, by decide⟩ dX2_readsEater_30 ?_
    refine Gx_icmp_ge (tgt := 106) dX2_readsEater_31 (by decide) (fun hz => absurd hz (by decide)) (fun _ => ?_)
    refine Gx_iload_n (i := 3) dX2_readsEater_34 rfl rfl ?_
    refine Gx_if_le (tgt := 48) dX2_readsEater_35 (by decide) (fun _ => ?_) (fun hz => absurd hz (by decide))
    refine Gx_aload_n (i := 0) dX2_readsEater_48 rfl rfl ?_
    refine Gx_iload_n (i := 1) dX2_readsEater_49 rfl rfl ?_
    refine Gx_iload_n (i := 3) dX2_readsEater_50 rfl rfl ?_
    refine Gx_if_ne (tgt := 58) dX2_readsEater_51 (by decide) (fun hz => absurd hz (by decide)) (fun _ => ?_)
    refine Gx_iconst ⟨by decide, by decide⟩ dX2_readsEater_54 ?_
    refine Gx_goto (tgt := 59) dX2_readsEater_55 (by decide) ?_
    refine Gx_iload_n (i := 3) dX2_readsEater_59 rfl rfl ?_
    refine Gx_iconst ⟨by decide, by decide⟩ dX2_readsEater_60 ?_
    refine Gx_icmp_ne (tgt := 68) dX2_readsEater_61 (by decide) (fun _ => ?_) (fun hz => absurd hz (by decide))
    refine Gx_iconst ⟨by decide, by decide⟩ dX2_readsEater_68 ?_
    refine Gx_iload_n (i := 3) dX2_readsEater_69 rfl rfl ?_
    refine Gx_if_ne (tgt := 78) dX2_readsEater_70 (by decide) (fun hz => absurd hz (by decide)) (fun _ => ?_)
    refine Gx_bipush dX2_readsEater_73 ⟨by decide, by decide⟩ ?_
    refine Gx_goto (tgt := 80) dX2_readsEater_75 (by decide) ?_
    refine cl_X2_147 dX2_readsEater_80 rfl rfl ⟨(Nat.le_of_ble_eq_true rfl), (Nat.le_of_ble_eq_true rfl)⟩ rfl ?_
    refine ct_X2_readsP (q0 := (q0 + 1)) (f := 2) hr hsS hbS hqS (by omega) rfl (by omega) (fun qA xA vA cA bA hFA hqA hxA hbA hsA => ?_) (fun qA xA vA hzA cA bA hFA hqA hxA hbA hsA => ?_)
    · refine Gx_if_ne (tgt := 88) dX2_readsEater_83 (by decide) (fun _ => ?_) (fun hz => absurd hz (by decide))
      refine Gx_aload_n (i := 0) dX2_readsEater_88 rfl rfl ?_
      refine gf_X2_32_22 dX2_readsEater_89 rfl rfl ?_
      refine Gx_iload_n (i := 2) dX2_readsEater_92 rfl rfl ?_
      refine Gx_iload_n (i := 3) dX2_readsEater_93 rfl rfl ?_
      refine Gx_iadd dX2_readsEater_94 ?_
      try simp (disch := omega) only [w32_id]
      refine Gx_aload_n (i := 0) dX2_readsEater_95 rfl rfl ?_
      refine gf_X2_138_22 dX2_readsEater_96 rfl rfl ?_
      refine Gx_iastore dX2_readsEater_99 rfl (by first | omega | (simp (disch := omega) only [w32_id]; omega)) ?_
      refine Gx_iinc_3 dX2_readsEater_100 (Nat.le_of_ble_eq_true rfl) (Nat.ne_of_beq_eq_false rfl) ?_
      rw [show w32 (0 + 1) = (1 : Int) from by decide]
      refine Gx_goto (tgt := 29) dX2_readsEater_103 (by decide) ?_
      refine Gx_name (fun vT1 eT1 => ?_)
      have hFT1 : ∀ a j, ¬ (a = 46 ∧ j = 4 * n0 + 0) → vT1 a j = vA a j := by
        intro a j hn
        rw [eT1]
        simp (disch := omega) only [gUp_ne2, gUp_eq2]
      have hyT1 : vT1 46 (4 * n0 + 0) = xA := by
        rw [eT1]
        simp (disch := omega) only [gUp_ne2, gUp_eq2, hxA, hqA]
      have hqT1 : vT1 38 10 = qA := by
        rw [eT1]
        simp (disch := omega) only [gUp_ne2, gUp_eq2, hxA, hqA]
      have hbT1 : mB vT1 r = b := mB_of (fun j => hFT1 43 j (by omega)) (fun j => hFT1 44 j (by omega)) hbA
      have hsT1 : vT1 43 r ≤ 80 := by rw [hFT1 43 r (by omega)]; exact hsA
      refine Gx_iload_n (i := 3) dX2_readsEater_29 rfl rfl ?_
      refine Gx_iconst ⟨by decide, by decide⟩ dX2_readsEater_30 ?_
      refine Gx_icmp_ge (tgt := 106) dX2_readsEater_31 (by decide) (fun hz => absurd hz (by decide)) (fun _ => ?_)
      refine Gx_iload_n (i := 3) dX2_readsEater_34 rfl rfl ?_
      refine Gx_if_le (tgt := 48) dX2_readsEater_35 (by decide) (fun hz => absurd hz (by decide)) (fun _ => ?_)
      refine Gx_aload_n (i := 0) dX2_readsEater_38 rfl rfl ?_
      refine Gx_iload_n (i := 1) dX2_readsEater_39 rfl rfl ?_
      refine Gx_bipush dX2_readsEater_40 ⟨by decide, by decide⟩ ?_
      refine cl_X2_154 dX2_readsEater_42 rfl rfl ⟨(Nat.le_of_ble_eq_true rfl), (Nat.le_of_ble_eq_true rfl)⟩ rfl ?_
      refine ct_X2_signP (q0 := qA) hr hsT1 hbT1 hqT1 (by omega) (fun vG2 cG2 hFG2 hqG2 hbG2 hsG2 => ?_) (fun vG2 cG2 hFG2 hqG2 hbG2 hsG2 => ?_)
      · refine Gx_if_eq (tgt := 86) dX2_readsEater_45 (by decide) (fun hz => absurd hz (by decide)) (fun _ => ?_)
        refine Gx_aload_n (i := 0) dX2_readsEater_48 rfl rfl ?_
        refine Gx_iload_n (i := 1) dX2_readsEater_49 rfl rfl ?_
        refine Gx_iload_n (i := 3) dX2_readsEater_50 rfl rfl ?_
        refine Gx_if_ne (tgt := 58) dX2_readsEater_51 (by decide) (fun _ => ?_) (fun hz => absurd hz (by decide))
        refine Gx_iconst ⟨by decide, by decide⟩ dX2_readsEater_58 ?_
        refine Gx_iload_n (i := 3) dX2_readsEater_59 rfl rfl ?_
        refine Gx_iconst ⟨by decide, by decide⟩ dX2_readsEater_60 ?_
        refine Gx_icmp_ne (tgt := 68) dX2_readsEater_61 (by decide) (fun hz => absurd hz (by decide)) (fun _ => ?_)
        refine Gx_iconst ⟨by decide, by decide⟩ dX2_readsEater_64 ?_
        refine Gx_goto (tgt := 69) dX2_readsEater_65 (by decide) ?_
        refine Gx_iload_n (i := 3) dX2_readsEater_69 rfl rfl ?_
        refine Gx_if_ne (tgt := 78) dX2_readsEater_70 (by decide) (fun _ => ?_) (fun hz => absurd hz (by decide))
        refine Gx_bipush dX2_readsEater_78 ⟨by decide, by decide⟩ ?_
        refine cl_X2_147 dX2_readsEater_80 rfl rfl ⟨(Nat.le_of_ble_eq_true rfl), (Nat.le_of_ble_eq_true rfl)⟩ rfl ?_
        refine ct_X2_readsP (q0 := (qA + 1)) (f := 1) hr hsG2 hbG2 hqG2 (by omega) rfl (by omega) (fun qB xB vB cB bB hFB hqB hxB hbB hsB => ?_) (fun qB xB vB hzB cB bB hFB hqB hxB hbB hsB => ?_)
        · refine Gx_if_ne (tgt := 88) dX2_readsEater_83 (by decide) (fun _ => ?_) (fun hz => absurd hz (by decide))
          refine Gx_aload_n (i := 0) dX2_readsEater_88 rfl rfl ?_
          refine gf_X2_32_22 dX2_readsEater_89 rfl rfl ?_
          refine Gx_iload_n (i := 2) dX2_readsEater_92 rfl rfl ?_
          refine Gx_iload_n (i := 3) dX2_readsEater_93 rfl rfl ?_
          refine Gx_iadd dX2_readsEater_94 ?_
          try simp (disch := omega) only [w32_id]
          refine Gx_aload_n (i := 0) dX2_readsEater_95 rfl rfl ?_
          refine gf_X2_138_22 dX2_readsEater_96 rfl rfl ?_
          refine Gx_iastore dX2_readsEater_99 rfl (by first | omega | (simp (disch := omega) only [w32_id]; omega)) ?_
          refine Gx_iinc_3 dX2_readsEater_100 (Nat.le_of_ble_eq_true rfl) (Nat.ne_of_beq_eq_false rfl) ?_
          rw [show w32 (1 + 1) = (2 : Int) from by decide]
          refine Gx_goto (tgt := 29) dX2_readsEater_103 (by decide) ?_
          refine Gx_name (fun vT2 eT2 => ?_)
          have hFT2 : ∀ a j, ¬ (a = 46 ∧ j = 4 * n0 + 1) → vT2 a j = vB a j := by
            intro a j hn
            rw [eT2]
            simp (disch := omega) only [gUp_ne2, gUp_eq2]
          have hyT2 : vT2 46 (4 * n0 + 1) = xB := by
            rw [eT2]
            simp (disch := omega) only [gUp_ne2, gUp_eq2, hxB, hqB]
          have hqT2 : vT2 38 10 = qB := by
            rw [eT2]
            simp (disch := omega) only [gUp_ne2, gUp_eq2, hxB, hqB]
          have hbT2 : mB vT2 r = b := mB_of (fun j => hFT2 43 j (by omega)) (fun j => hFT2 44 j (by omega)) hbB
          have hsT2 : vT2 43 r ≤ 80 := by rw [hFT2 43 r (by omega)]; exact hsB
          refine Gx_iload_n (i := 3) dX2_readsEater_29 rfl rfl ?_
          refine Gx_iconst ⟨by decide, by decide⟩ dX2_readsEater_30 ?_
          refine Gx_icmp_ge (tgt := 106) dX2_readsEater_31 (by decide) (fun hz => absurd hz (by decide)) (fun _ => ?_)
          refine Gx_iload_n (i := 3) dX2_readsEater_34 rfl rfl ?_
          refine Gx_if_le (tgt := 48) dX2_readsEater_35 (by decide) (fun hz => absurd hz (by decide)) (fun _ => ?_)
          refine Gx_aload_n (i := 0) dX2_readsEater_38 rfl rfl ?_
          refine Gx_iload_n (i := 1) dX2_readsEater_39 rfl rfl ?_
          refine Gx_bipush dX2_readsEater_40 ⟨by decide, by decide⟩ ?_
          refine cl_X2_154 dX2_readsEater_42 rfl rfl ⟨(Nat.le_of_ble_eq_true rfl), (Nat.le_of_ble_eq_true rfl)⟩ rfl ?_
          refine ct_X2_signP (q0 := qB) hr hsT2 hbT2 hqT2 (by omega) (fun vG3 cG3 hFG3 hqG3 hbG3 hsG3 => ?_) (fun vG3 cG3 hFG3 hqG3 hbG3 hsG3 => ?_)
          · refine Gx_if_eq (tgt := 86) dX2_readsEater_45 (by decide) (fun hz => absurd hz (by decide)) (fun _ => ?_)
            refine Gx_aload_n (i := 0) dX2_readsEater_48 rfl rfl ?_
            refine Gx_iload_n (i := 1) dX2_readsEater_49 rfl rfl ?_
            refine Gx_iload_n (i := 3) dX2_readsEater_50 rfl rfl ?_
            refine Gx_if_ne (tgt := 58) dX2_readsEater_51 (by decide) (fun _ => ?_) (fun hz => absurd hz (by decide))
            refine Gx_iconst ⟨by decide, by decide⟩ dX2_readsEater_58 ?_
            refine Gx_iload_n (i := 3) dX2_readsEater_59 rfl rfl ?_
            refine Gx_iconst ⟨by decide, by decide⟩ dX2_readsEater_60 ?_
            refine Gx_icmp_ne (tgt := 68) dX2_readsEater_61 (by decide) (fun _ => ?_) (fun hz => absurd hz (by decide))
            refine Gx_iconst ⟨by decide, by decide⟩ dX2_readsEater_68 ?_
            refine Gx_iload_n (i := 3) dX2_readsEater_69 rfl rfl ?_
            refine Gx_if_ne (tgt := 78) dX2_readsEater_70 (by decide) (fun _ => ?_) (fun hz => absurd hz (by decide))
            refine Gx_bipush dX2_readsEater_78 ⟨by decide, by decide⟩ ?_
            refine cl_X2_147 dX2_readsEater_80 rfl rfl ⟨(Nat.le_of_ble_eq_true rfl), (Nat.le_of_ble_eq_true rfl)⟩ rfl ?_
            refine ct_X2_readsP (q0 := (qB + 1)) (f := 1) hr hsG3 hbG3 hqG3 (by omega) rfl (by omega) (fun qC xC vC cC bC hFC hqC hxC hbC hsC => ?_) (fun qC xC vC hzC cC bC hFC hqC hxC hbC hsC => ?_)
            · refine Gx_if_ne (tgt := 88) dX2_readsEater_83 (by decide) (fun _ => ?_) (fun hz => absurd hz (by decide))
              refine Gx_aload_n (i := 0) dX2_readsEater_88 rfl rfl ?_
              refine gf_X2_32_22 dX2_readsEater_89 rfl rfl ?_
              refine Gx_iload_n (i := 2) dX2_readsEater_92 rfl rfl ?_
              refine Gx_iload_n (i := 3) dX2_readsEater_93 rfl rfl ?_
              refine Gx_iadd dX2_readsEater_94 ?_
              try simp (disch := omega) only [w32_id]
              refine Gx_aload_n (i := 0) dX2_readsEater_95 rfl rfl ?_
              refine gf_X2_138_22 dX2_readsEater_96 rfl rfl ?_
              refine Gx_iastore dX2_readsEater_99 rfl (by first | omega | (simp (disch := omega) only [w32_id]; omega)) ?_
              refine Gx_iinc_3 dX2_readsEater_100 (Nat.le_of_ble_eq_true rfl) (Nat.ne_of_beq_eq_false rfl) ?_
              rw [show w32 (2 + 1) = (3 : Int) from by decide]
              refine Gx_goto (tgt := 29) dX2_readsEater_103 (by decide) ?_
              refine Gx_name (fun vT3 eT3 => ?_)
              have hFT3 : ∀ a j, ¬ (a = 46 ∧ j = 4 * n0 + 2) → vT3 a j = vC a j := by
                intro a j hn
                rw [eT3]
                simp (disch := omega) only [gUp_ne2, gUp_eq2]
              have hyT3 : vT3 46 (4 * n0 + 2) = xC := by
                rw [eT3]
                simp (disch := omega) only [gUp_ne2, gUp_eq2, hxC, hqC]
              have hqT3 : vT3 38 10 = qC := by
                rw [eT3]
                simp (disch := omega) only [gUp_ne2, gUp_eq2, hxC, hqC]
              have hbT3 : mB vT3 r = b := mB_of (fun j => hFT3 43 j (by omega)) (fun j => hFT3 44 j (by omega)) hbC
              have hsT3 : vT3 43 r ≤ 80 := by rw [hFT3 43 r (by omega)]; exact hsC
              refine Gx_iload_n (i := 3) dX2_readsEater_29 rfl rfl ?_
              refine Gx_iconst ⟨by decide, by decide⟩ dX2_readsEater_30 ?_
              refine Gx_icmp_ge (tgt := 106) dX2_readsEater_31 (by decide) (fun hz => absurd hz (by decide)) (fun _ => ?_)
              refine Gx_iload_n (i := 3) dX2_readsEater_34 rfl rfl ?_
              refine Gx_if_le (tgt := 48) dX2_readsEater_35 (by decide) (fun hz => absurd hz (by decide)) (fun _ => ?_)
              refine Gx_aload_n (i := 0) dX2_readsEater_38 rfl rfl ?_
              refine Gx_iload_n (i := 1) dX2_readsEater_39 rfl rfl ?_
              refine Gx_bipush dX2_readsEater_40 ⟨by decide, by decide⟩ ?_
              refine cl_X2_154 dX2_readsEater_42 rfl rfl ⟨(Nat.le_of_ble_eq_true rfl), (Nat.le_of_ble_eq_true rfl)⟩ rfl ?_
              refine ct_X2_signP (q0 := qC) hr hsT3 hbT3 hqT3 (by omega) (fun vG4 cG4 hFG4 hqG4 hbG4 hsG4 => ?_) (fun vG4 cG4 hFG4 hqG4 hbG4 hsG4 => ?_)
              · refine Gx_if_eq (tgt := 86) dX2_readsEater_45 (by decide) (fun hz => absurd hz (by decide)) (fun _ => ?_)
                refine Gx_aload_n (i := 0) dX2_readsEater_48 rfl rfl ?_
                refine Gx_iload_n (i := 1) dX2_readsEater_49 rfl rfl ?_
                refine Gx_iload_n (i := 3) dX2_readsEater_50 rfl rfl ?_
                refine Gx_if_ne (tgt := 58) dX2_readsEater_51 (by decide) (fun _ => ?_) (fun hz => absurd hz (by decide))
                refine Gx_iconst ⟨by decide, by decide⟩ dX2_readsEater_58 ?_
                refine Gx_iload_n (i := 3) dX2_readsEater_59 rfl rfl ?_
                refine Gx_iconst ⟨by decide, by decide⟩ dX2_readsEater_60 ?_
                refine Gx_icmp_ne (tgt := 68) dX2_readsEater_61 (by decide) (fun _ => ?_) (fun hz => absurd hz (by decide))
                refine Gx_iconst ⟨by decide, by decide⟩ dX2_readsEater_68 ?_
                refine Gx_iload_n (i := 3) dX2_readsEater_69 rfl rfl ?_
                refine Gx_if_ne (tgt := 78) dX2_readsEater_70 (by decide) (fun _ => ?_) (fun hz => absurd hz (by decide))
                refine Gx_bipush dX2_readsEater_78 ⟨by decide, by decide⟩ ?_
                refine cl_X2_147 dX2_readsEater_80 rfl rfl ⟨(Nat.le_of_ble_eq_true rfl), (Nat.le_of_ble_eq_true rfl)⟩ rfl ?_
                refine ct_X2_readsP (q0 := (qC + 1)) (f := 1) hr hsG4 hbG4 hqG4 (by omega) rfl (by omega) (fun qD xD vD cD bD hFD hqD hxD hbD hsD => ?_) (fun qD xD vD hzD cD bD hFD hqD hxD hbD hsD => ?_)
                · refine Gx_if_ne (tgt := 88) dX2_readsEater_83 (by decide) (fun _ => ?_) (fun hz => absurd hz (by decide))
                  refine Gx_aload_n (i := 0) dX2_readsEater_88 rfl rfl ?_
                  refine gf_X2_32_22 dX2_readsEater_89 rfl rfl ?_
                  refine Gx_iload_n (i := 2) dX2_readsEater_92 rfl rfl ?_
                  refine Gx_iload_n (i := 3) dX2_readsEater_93 rfl rfl ?_
                  refine Gx_iadd dX2_readsEater_94 ?_
                  try simp (disch := omega) only [w32_id]
                  refine Gx_aload_n (i := 0) dX2_readsEater_95 rfl rfl ?_
                  refine gf_X2_138_22 dX2_readsEater_96 rfl rfl ?_
                  refine Gx_iastore dX2_readsEater_99 rfl (by first | omega | (simp (disch := omega) only [w32_id]; omega)) ?_
                  refine Gx_iinc_3 dX2_readsEater_100 (Nat.le_of_ble_eq_true rfl) (Nat.ne_of_beq_eq_false rfl) ?_
                  rw [show w32 (3 + 1) = (4 : Int) from by decide]
                  refine Gx_goto (tgt := 29) dX2_readsEater_103 (by decide) ?_
                  refine Gx_name (fun vT4 eT4 => ?_)
                  have hFT4 : ∀ a j, ¬ (a = 46 ∧ j = 4 * n0 + 3) → vT4 a j = vD a j := by
                    intro a j hn
                    rw [eT4]
                    simp (disch := omega) only [gUp_ne2, gUp_eq2]
                  have hyT4 : vT4 46 (4 * n0 + 3) = xD := by
                    rw [eT4]
                    simp (disch := omega) only [gUp_ne2, gUp_eq2, hxD, hqD]
                  have hqT4 : vT4 38 10 = qD := by
                    rw [eT4]
                    simp (disch := omega) only [gUp_ne2, gUp_eq2, hxD, hqD]
                  have hbT4 : mB vT4 r = b := mB_of (fun j => hFT4 43 j (by omega)) (fun j => hFT4 44 j (by omega)) hbD
                  have hsT4 : vT4 43 r ≤ 80 := by rw [hFT4 43 r (by omega)]; exact hsD
                  refine Gx_iload_n (i := 3) dX2_readsEater_29 rfl rfl ?_
                  refine Gx_iconst ⟨by decide, by decide⟩ dX2_readsEater_30 ?_
                  refine Gx_icmp_ge (tgt := 106) dX2_readsEater_31 (by decide) (fun _ => ?_) (fun hz => absurd hz (by decide))
                  have hnT : vT4 38 14 = n0 := by simp (disch := omega) only [hFT4, hFD, hFG4, hFT3, hFC, hFG3, hFT2, hFB, hFG2, hFT1, hFA, hnS]
                  refine Gx_aload_n (i := 0) dX2_readsEater_106 rfl rfl ?_
                  refine Gx_dup (Nat.ne_of_beq_eq_false rfl) dX2_readsEater_107 ?_
                  refine gf_X2_161_22 dX2_readsEater_108 rfl rfl ?_
                  refine Gx_iconst ⟨by decide, by decide⟩ dX2_readsEater_111 ?_
                  refine Gx_iadd dX2_readsEater_112 ?_
                  try simp (disch := omega) only [w32_id]
                  refine pf_X2_161_22 dX2_readsEater_113 rfl rfl ?_
                  refine Gx_iconst ⟨by decide, by decide⟩ dX2_readsEater_116 ?_
                  refine Gx_ireturn dX2_readsEater_117 (Or.inr rfl) ?_
                  first
                    | (refine k1 qD xA xB xC xD _ ?_ ?_ ?_ ?_ ?_ ?_ ?_ ?_
                       · simp [pEater, Bind.bind, Except.bind, Pure.pure, Except.pure, *]; done
                       · intro a j hn; simp (disch := omega) only [gUp_ne2, gUp_eq2, hFA, hqA, hxA, hFG2, hqG2, hFB, hqB, hxB, hFG3, hqG3, hFC, hqC, hxC, hFG4, hqG4, hFD, hqD, hxD, hFT4, hFT3, hFT2, hFT1, hFS]; done
                       · rw [gUp_ne2 (by omega)]; exact hqT4
                       · rw [gUp_eq2 rfl rfl]; omega
                       · simp (disch := omega) only [gUp_ne2, gUp_eq2, hFA, hqA, hxA, hFG2, hqG2, hFB, hqB, hxB, hFG3, hqG3, hFC, hqC, hxC, hFG4, hqG4, hFD, hqD, hxD, hFT4, hFT3, hFT2]; rw [← Int.add_zero (4 * n0)]; exact hyT1
                       · simp (disch := omega) only [gUp_ne2, gUp_eq2, hFA, hqA, hxA, hFG2, hqG2, hFB, hqB, hxB, hFG3, hqG3, hFC, hqC, hxC, hFG4, hqG4, hFD, hqD, hxD, hFT4, hFT3, hFT2, hFT1, hFS, hyT2]; done
                       · simp (disch := omega) only [gUp_ne2, gUp_eq2, hFA, hqA, hxA, hFG2, hqG2, hFB, hqB, hxB, hFG3, hqG3, hFC, hqC, hxC, hFG4, hqG4, hFD, hqD, hxD, hFT4, hFT3, hFT2, hFT1, hFS, hyT3]; done
                       · simp (disch := omega) only [gUp_ne2, gUp_eq2, hFA, hqA, hxA, hFG2, hqG2, hFB, hqB, hxB, hFG3, hqG3, hFC, hqC, hxC, hFG4, hqG4, hFD, hqD, hxD, hFT4, hFT3, hFT2, hFT1, hFS, hyT4]; done)
                · refine Gx_if_ne (tgt := 88) dX2_readsEater_83 (by decide) (fun hz => absurd hz (by decide)) (fun _ => ?_)
                  refine Gx_iconst ⟨by decide, by decide⟩ dX2_readsEater_86 ?_
                  refine Gx_ireturn dX2_readsEater_87 (Or.inl rfl) ?_
                  first
                    | (refine k0 qD _ ?_ ?_ ?_ ?_
                       · simp [pEater, Bind.bind, Except.bind, Pure.pure, Except.pure, *]; done
                       · intro a j hn; simp (disch := omega) only [gUp_ne2, gUp_eq2, hFA, hqA, hxA, hFG2, hqG2, hFB, hqB, hxB, hFG3, hqG3, hFC, hqC, hxC, hFG4, hqG4, hFD, hqD, hxD, hFT3, hFT2, hFT1, hFS]; done
                       · exact hqD
                       · simp (disch := omega) only [gUp_ne2, gUp_eq2, hFA, hqA, hxA, hFG2, hqG2, hFB, hqB, hxB, hFG3, hqG3, hFC, hqC, hxC, hFG4, hqG4, hFD, hqD, hxD, hFT3, hFT2, hFT1, hFS, hn]; done)
                    | (refine k0 qC _ ?_ ?_ ?_ ?_
                       · simp [pEater, Bind.bind, Except.bind, Pure.pure, Except.pure, *]; done
                       · intro a j hn; simp (disch := omega) only [gUp_ne2, gUp_eq2, hFA, hqA, hxA, hFG2, hqG2, hFB, hqB, hxB, hFG3, hqG3, hFC, hqC, hxC, hFG4, hqG4, hFD, hqD, hxD, hFT3, hFT2, hFT1, hFS]; done
                       · exact hqG4
                       · simp (disch := omega) only [gUp_ne2, gUp_eq2, hFA, hqA, hxA, hFG2, hqG2, hFB, hqB, hxB, hFG3, hqG3, hFC, hqC, hxC, hFG4, hqG4, hFD, hqD, hxD, hFT3, hFT2, hFT1, hFS, hn]; done)
                    | (refine k0 qC _ ?_ ?_ ?_ ?_
                       · simp [pEater, Bind.bind, Except.bind, Pure.pure, Except.pure, *]; done
                       · intro a j hn; simp (disch := omega) only [gUp_ne2, gUp_eq2, hFA, hqA, hxA, hFG2, hqG2, hFB, hqB, hxB, hFG3, hqG3, hFC, hqC, hxC, hFG4, hqG4, hFD, hqD, hxD, hFT2, hFT1, hFS]; done
                       · exact hqC
                       · simp (disch := omega) only [gUp_ne2, gUp_eq2, hFA, hqA, hxA, hFG2, hqG2, hFB, hqB, hxB, hFG3, hqG3, hFC, hqC, hxC, hFG4, hqG4, hFD, hqD, hxD, hFT2, hFT1, hFS, hn]; done)
                    | (refine k0 qB _ ?_ ?_ ?_ ?_
                       · simp [pEater, Bind.bind, Except.bind, Pure.pure, Except.pure, *]; done
                       · intro a j hn; simp (disch := omega) only [gUp_ne2, gUp_eq2, hFA, hqA, hxA, hFG2, hqG2, hFB, hqB, hxB, hFG3, hqG3, hFC, hqC, hxC, hFG4, hqG4, hFD, hqD, hxD, hFT2, hFT1, hFS]; done
                       · exact hqG3
                       · simp (disch := omega) only [gUp_ne2, gUp_eq2, hFA, hqA, hxA, hFG2, hqG2, hFB, hqB, hxB, hFG3, hqG3, hFC, hqC, hxC, hFG4, hqG4, hFD, hqD, hxD, hFT2, hFT1, hFS, hn]; done)
                    | (refine k0 qB _ ?_ ?_ ?_ ?_
                       · simp [pEater, Bind.bind, Except.bind, Pure.pure, Except.pure, *]; done
                       · intro a j hn; simp (disch := omega) only [gUp_ne2, gUp_eq2, hFA, hqA, hxA, hFG2, hqG2, hFB, hqB, hxB, hFG3, hqG3, hFC, hqC, hxC, hFG4, hqG4, hFD, hqD, hxD, hFT1, hFS]; done
                       · exact hqB
                       · simp (disch := omega) only [gUp_ne2, gUp_eq2, hFA, hqA, hxA, hFG2, hqG2, hFB, hqB, hxB, hFG3, hqG3, hFC, hqC, hxC, hFG4, hqG4, hFD, hqD, hxD, hFT1, hFS, hn]; done)
                    | (refine k0 qA _ ?_ ?_ ?_ ?_
                       · simp [pEater, Bind.bind, Except.bind, Pure.pure, Except.pure, *]; done
                       · intro a j hn; simp (disch := omega) only [gUp_ne2, gUp_eq2, hFA, hqA, hxA, hFG2, hqG2, hFB, hqB, hxB, hFG3, hqG3, hFC, hqC, hxC, hFG4, hqG4, hFD, hqD, hxD, hFT1, hFS]; done
                       · exact hqG2
                       · simp (disch := omega) only [gUp_ne2, gUp_eq2, hFA, hqA, hxA, hFG2, hqG2, hFB, hqB, hxB, hFG3, hqG3, hFC, hqC, hxC, hFG4, hqG4, hFD, hqD, hxD, hFT1, hFS, hn]; done)
                    | (refine k0 qA _ ?_ ?_ ?_ ?_
                       · simp [pEater, Bind.bind, Except.bind, Pure.pure, Except.pure, *]; done
                       · intro a j hn; simp (disch := omega) only [gUp_ne2, gUp_eq2, hFA, hqA, hxA, hFG2, hqG2, hFB, hqB, hxB, hFG3, hqG3, hFC, hqC, hxC, hFG4, hqG4, hFD, hqD, hxD, hFS]; done
                       · exact hqA
                       · simp (disch := omega) only [gUp_ne2, gUp_eq2, hFA, hqA, hxA, hFG2, hqG2, hFB, hqB, hxB, hFG3, hqG3, hFC, hqC, hxC, hFG4, hqG4, hFD, hqD, hxD, hFS, hn]; done)
              · refine Gx_if_eq (tgt := 86) dX2_readsEater_45 (by decide) (fun _ => ?_) (fun hz => absurd hz (by decide))
                refine Gx_iconst ⟨by decide, by decide⟩ dX2_readsEater_86 ?_
                refine Gx_ireturn dX2_readsEater_87 (Or.inl rfl) ?_
                first
                  | (refine k0 qD _ ?_ ?_ ?_ ?_
                     · simp [pEater, Bind.bind, Except.bind, Pure.pure, Except.pure, *]; done
                     · intro a j hn; simp (disch := omega) only [gUp_ne2, gUp_eq2, hFA, hqA, hxA, hFG2, hqG2, hFB, hqB, hxB, hFG3, hqG3, hFC, hqC, hxC, hFG4, hqG4, hFT3, hFT2, hFT1, hFS]; done
                     · exact hqD
                     · simp (disch := omega) only [gUp_ne2, gUp_eq2, hFA, hqA, hxA, hFG2, hqG2, hFB, hqB, hxB, hFG3, hqG3, hFC, hqC, hxC, hFG4, hqG4, hFT3, hFT2, hFT1, hFS, hn]; done)
                  | (refine k0 qC _ ?_ ?_ ?_ ?_
                     · simp [pEater, Bind.bind, Except.bind, Pure.pure, Except.pure, *]; done
                     · intro a j hn; simp (disch := omega) only [gUp_ne2, gUp_eq2, hFA, hqA, hxA, hFG2, hqG2, hFB, hqB, hxB, hFG3, hqG3, hFC, hqC, hxC, hFG4, hqG4, hFT3, hFT2, hFT1, hFS]; done
                     · exact hqG4
                     · simp (disch := omega) only [gUp_ne2, gUp_eq2, hFA, hqA, hxA, hFG2, hqG2, hFB, hqB, hxB, hFG3, hqG3, hFC, hqC, hxC, hFG4, hqG4, hFT3, hFT2, hFT1, hFS, hn]; done)
                  | (refine k0 qC _ ?_ ?_ ?_ ?_
                     · simp [pEater, Bind.bind, Except.bind, Pure.pure, Except.pure, *]; done
                     · intro a j hn; simp (disch := omega) only [gUp_ne2, gUp_eq2, hFA, hqA, hxA, hFG2, hqG2, hFB, hqB, hxB, hFG3, hqG3, hFC, hqC, hxC, hFG4, hqG4, hFT2, hFT1, hFS]; done
                     · exact hqC
                     · simp (disch := omega) only [gUp_ne2, gUp_eq2, hFA, hqA, hxA, hFG2, hqG2, hFB, hqB, hxB, hFG3, hqG3, hFC, hqC, hxC, hFG4, hqG4, hFT2, hFT1, hFS, hn]; done)
                  | (refine k0 qB _ ?_ ?_ ?_ ?_
                     · simp [pEater, Bind.bind, Except.bind, Pure.pure, Except.pure, *]; done
                     · intro a j hn; simp (disch := omega) only [gUp_ne2, gUp_eq2, hFA, hqA, hxA, hFG2, hqG2, hFB, hqB, hxB, hFG3, hqG3, hFC, hqC, hxC, hFG4, hqG4, hFT2, hFT1, hFS]; done
                     · exact hqG3
                     · simp (disch := omega) only [gUp_ne2, gUp_eq2, hFA, hqA, hxA, hFG2, hqG2, hFB, hqB, hxB, hFG3, hqG3, hFC, hqC, hxC, hFG4, hqG4, hFT2, hFT1, hFS, hn]; done)
                  | (refine k0 qB _ ?_ ?_ ?_ ?_
                     · simp [pEater, Bind.bind, Except.bind, Pure.pure, Except.pure, *]; done
                     · intro a j hn; simp (disch := omega) only [gUp_ne2, gUp_eq2, hFA, hqA, hxA, hFG2, hqG2, hFB, hqB, hxB, hFG3, hqG3, hFC, hqC, hxC, hFG4, hqG4, hFT1, hFS]; done
                     · exact hqB
                     · simp (disch := omega) only [gUp_ne2, gUp_eq2, hFA, hqA, hxA, hFG2, hqG2, hFB, hqB, hxB, hFG3, hqG3, hFC, hqC, hxC, hFG4, hqG4, hFT1, hFS, hn]; done)
                  | (refine k0 qA _ ?_ ?_ ?_ ?_
                     · simp [pEater, Bind.bind, Except.bind, Pure.pure, Except.pure, *]; done
                     · intro a j hn; simp (disch := omega) only [gUp_ne2, gUp_eq2, hFA, hqA, hxA, hFG2, hqG2, hFB, hqB, hxB, hFG3, hqG3, hFC, hqC, hxC, hFG4, hqG4, hFT1, hFS]; done
                     · exact hqG2
                     · simp (disch := omega) only [gUp_ne2, gUp_eq2, hFA, hqA, hxA, hFG2, hqG2, hFB, hqB, hxB, hFG3, hqG3, hFC, hqC, hxC, hFG4, hqG4, hFT1, hFS, hn]; done)
                  | (refine k0 qA _ ?_ ?_ ?_ ?_
                     · simp [pEater, Bind.bind, Except.bind, Pure.pure, Except.pure, *]; done
                     · intro a j hn; simp (disch := omega) only [gUp_ne2, gUp_eq2, hFA, hqA, hxA, hFG2, hqG2, hFB, hqB, hxB, hFG3, hqG3, hFC, hqC, hxC, hFG4, hqG4, hFS]; done
                     · exact hqA
                     · simp (disch := omega) only [gUp_ne2, gUp_eq2, hFA, hqA, hxA, hFG2, hqG2, hFB, hqB, hxB, hFG3, hqG3, hFC, hqC, hxC, hFG4, hqG4, hFS, hn]; done)
            · refine Gx_if_ne (tgt := 88) dX2_readsEater_83 (by decide) (fun hz => absurd hz (by decide)) (fun _ => ?_)
              refine Gx_iconst ⟨by decide, by decide⟩ dX2_readsEater_86 ?_
              refine Gx_ireturn dX2_readsEater_87 (Or.inl rfl) ?_
              first
                | (refine k0 qD _ ?_ ?_ ?_ ?_
                   · simp [pEater, Bind.bind, Except.bind, Pure.pure, Except.pure, *]; done
                   · intro a j hn; simp (disch := omega) only [gUp_ne2, gUp_eq2, hFA, hqA, hxA, hFG2, hqG2, hFB, hqB, hxB, hFG3, hqG3, hFC, hqC, hxC, hFT3, hFT2, hFT1, hFS]; done
                   · exact hqD
                   · simp (disch := omega) only [gUp_ne2, gUp_eq2, hFA, hqA, hxA, hFG2, hqG2, hFB, hqB, hxB, hFG3, hqG3, hFC, hqC, hxC, hFT3, hFT2, hFT1, hFS, hn]; done)
                | (refine k0 qC _ ?_ ?_ ?_ ?_
                   · simp [pEater, Bind.bind, Except.bind, Pure.pure, Except.pure, *]; done
                   · intro a j hn; simp (disch := omega) only [gUp_ne2, gUp_eq2, hFA, hqA, hxA, hFG2, hqG2, hFB, hqB, hxB, hFG3, hqG3, hFC, hqC, hxC, hFT3, hFT2, hFT1, hFS]; done
                   · exact hqG4
                   · simp (disch := omega) only [gUp_ne2, gUp_eq2, hFA, hqA, hxA, hFG2, hqG2, hFB, hqB, hxB, hFG3, hqG3, hFC, hqC, hxC, hFT3, hFT2, hFT1, hFS, hn]; done)
                | (refine k0 qC _ ?_ ?_ ?_ ?_
                   · simp [pEater, Bind.bind, Except.bind, Pure.pure, Except.pure, *]; done
                   · intro a j hn; simp (disch := omega) only [gUp_ne2, gUp_eq2, hFA, hqA, hxA, hFG2, hqG2, hFB, hqB, hxB, hFG3, hqG3, hFC, hqC, hxC, hFT2, hFT1, hFS]; done
                   · exact hqC
                   · simp (disch := omega) only [gUp_ne2, gUp_eq2, hFA, hqA, hxA, hFG2, hqG2, hFB, hqB, hxB, hFG3, hqG3, hFC, hqC, hxC, hFT2, hFT1, hFS, hn]; done)
                | (refine k0 qB _ ?_ ?_ ?_ ?_
                   · simp [pEater, Bind.bind, Except.bind, Pure.pure, Except.pure, *]; done
                   · intro a j hn; simp (disch := omega) only [gUp_ne2, gUp_eq2, hFA, hqA, hxA, hFG2, hqG2, hFB, hqB, hxB, hFG3, hqG3, hFC, hqC, hxC, hFT2, hFT1, hFS]; done
                   · exact hqG3
                   · simp (disch := omega) only [gUp_ne2, gUp_eq2, hFA, hqA, hxA, hFG2, hqG2, hFB, hqB, hxB, hFG3, hqG3, hFC, hqC, hxC, hFT2, hFT1, hFS, hn]; done)
                | (refine k0 qB _ ?_ ?_ ?_ ?_
                   · simp [pEater, Bind.bind, Except.bind, Pure.pure, Except.pure, *]; done
                   · intro a j hn; simp (disch := omega) only [gUp_ne2, gUp_eq2, hFA, hqA, hxA, hFG2, hqG2, hFB, hqB, hxB, hFG3, hqG3, hFC, hqC, hxC, hFT1, hFS]; done
                   · exact hqB
                   · simp (disch := omega) only [gUp_ne2, gUp_eq2, hFA, hqA, hxA, hFG2, hqG2, hFB, hqB, hxB, hFG3, hqG3, hFC, hqC, hxC, hFT1, hFS, hn]; done)
                | (refine k0 qA _ ?_ ?_ ?_ ?_
                   · simp [pEater, Bind.bind, Except.bind, Pure.pure, Except.pure, *]; done
                   · intro a j hn; simp (disch := omega) only [gUp_ne2, gUp_eq2, hFA, hqA, hxA, hFG2, hqG2, hFB, hqB, hxB, hFG3, hqG3, hFC, hqC, hxC, hFT1, hFS]; done
                   · exact hqG2
                   · simp (disch := omega) only [gUp_ne2, gUp_eq2, hFA, hqA, hxA, hFG2, hqG2, hFB, hqB, hxB, hFG3, hqG3, hFC, hqC, hxC, hFT1, hFS, hn]; done)
                | (refine k0 qA _ ?_ ?_ ?_ ?_
                   · simp [pEater, Bind.bind, Except.bind, Pure.pure, Except.pure, *]; done
                   · intro a j hn; simp (disch := omega) only [gUp_ne2, gUp_eq2, hFA, hqA, hxA, hFG2, hqG2, hFB, hqB, hxB, hFG3, hqG3, hFC, hqC, hxC, hFS]; done
                   · exact hqA
                   · simp (disch := omega) only [gUp_ne2, gUp_eq2, hFA, hqA, hxA, hFG2, hqG2, hFB, hqB, hxB, hFG3, hqG3, hFC, hqC, hxC, hFS, hn]; done)
          · refine Gx_if_eq (tgt := 86) dX2_readsEater_45 (by decide) (fun _ => ?_) (fun hz => absurd hz (by decide))
            refine Gx_iconst ⟨by decide, by decide⟩ dX2_readsEater_86 ?_
            refine Gx_ireturn dX2_readsEater_87 (Or.inl rfl) ?_
            first
              | (refine k0 qD _ ?_ ?_ ?_ ?_
                 · simp [pEater, Bind.bind, Except.bind, Pure.pure, Except.pure, *]; done
                 · intro a j hn; simp (disch := omega) only [gUp_ne2, gUp_eq2, hFA, hqA, hxA, hFG2, hqG2, hFB, hqB, hxB, hFG3, hqG3, hFT3, hFT2, hFT1, hFS]; done
                 · exact hqD
                 · simp (disch := omega) only [gUp_ne2, gUp_eq2, hFA, hqA, hxA, hFG2, hqG2, hFB, hqB, hxB, hFG3, hqG3, hFT3, hFT2, hFT1, hFS, hn]; done)
              | (refine k0 qC _ ?_ ?_ ?_ ?_
                 · simp [pEater, Bind.bind, Except.bind, Pure.pure, Except.pure, *]; done
                 · intro a j hn; simp (disch := omega) only [gUp_ne2, gUp_eq2, hFA, hqA, hxA, hFG2, hqG2, hFB, hqB, hxB, hFG3, hqG3, hFT3, hFT2, hFT1, hFS]; done
                 · exact hqG4
                 · simp (disch := omega) only [gUp_ne2, gUp_eq2, hFA, hqA, hxA, hFG2, hqG2, hFB, hqB, hxB, hFG3, hqG3, hFT3, hFT2, hFT1, hFS, hn]; done)
              | (refine k0 qC _ ?_ ?_ ?_ ?_
                 · simp [pEater, Bind.bind, Except.bind, Pure.pure, Except.pure, *]; done
                 · intro a j hn; simp (disch := omega) only [gUp_ne2, gUp_eq2, hFA, hqA, hxA, hFG2, hqG2, hFB, hqB, hxB, hFG3, hqG3, hFT2, hFT1, hFS]; done
                 · exact hqC
                 · simp (disch := omega) only [gUp_ne2, gUp_eq2, hFA, hqA, hxA, hFG2, hqG2, hFB, hqB, hxB, hFG3, hqG3, hFT2, hFT1, hFS, hn]; done)
              | (refine k0 qB _ ?_ ?_ ?_ ?_
                 · simp [pEater, Bind.bind, Except.bind, Pure.pure, Except.pure, *]; done
                 · intro a j hn; simp (disch := omega) only [gUp_ne2, gUp_eq2, hFA, hqA, hxA, hFG2, hqG2, hFB, hqB, hxB, hFG3, hqG3, hFT2, hFT1, hFS]; done
                 · exact hqG3
                 · simp (disch := omega) only [gUp_ne2, gUp_eq2, hFA, hqA, hxA, hFG2, hqG2, hFB, hqB, hxB, hFG3, hqG3, hFT2, hFT1, hFS, hn]; done)
              | (refine k0 qB _ ?_ ?_ ?_ ?_
                 · simp [pEater, Bind.bind, Except.bind, Pure.pure, Except.pure, *]; done
                 · intro a j hn; simp (disch := omega) only [gUp_ne2, gUp_eq2, hFA, hqA, hxA, hFG2, hqG2, hFB, hqB, hxB, hFG3, hqG3, hFT1, hFS]; done
                 · exact hqB
                 · simp (disch := omega) only [gUp_ne2, gUp_eq2, hFA, hqA, hxA, hFG2, hqG2, hFB, hqB, hxB, hFG3, hqG3, hFT1, hFS, hn]; done)
              | (refine k0 qA _ ?_ ?_ ?_ ?_
                 · simp [pEater, Bind.bind, Except.bind, Pure.pure, Except.pure, *]; done
                 · intro a j hn; simp (disch := omega) only [gUp_ne2, gUp_eq2, hFA, hqA, hxA, hFG2, hqG2, hFB, hqB, hxB, hFG3, hqG3, hFT1, hFS]; done
                 · exact hqG2
                 · simp (disch := omega) only [gUp_ne2, gUp_eq2, hFA, hqA, hxA, hFG2, hqG2, hFB, hqB, hxB, hFG3, hqG3, hFT1, hFS, hn]; done)
              | (refine k0 qA _ ?_ ?_ ?_ ?_
                 · simp [pEater, Bind.bind, Except.bind, Pure.pure, Except.pure, *]; done
                 · intro a j hn; simp (disch := omega) only [gUp_ne2, gUp_eq2, hFA, hqA, hxA, hFG2, hqG2, hFB, hqB, hxB, hFG3, hqG3, hFS]; done
                 · exact hqA
                 · simp (disch := omega) only [gUp_ne2, gUp_eq2, hFA, hqA, hxA, hFG2, hqG2, hFB, hqB, hxB, hFG3, hqG3, hFS, hn]; done)
        · refine Gx_if_ne (tgt := 88) dX2_readsEater_83 (by decide) (fun hz => absurd hz (by decide)) (fun _ => ?_)
          refine Gx_iconst ⟨by decide, by decide⟩ dX2_readsEater_86 ?_
          refine Gx_ireturn dX2_readsEater_87 (Or.inl rfl) ?_
          first
            | (refine k0 qD _ ?_ ?_ ?_ ?_
               · simp [pEater, Bind.bind, Except.bind, Pure.pure, Except.pure, *]; done
               · intro a j hn; simp (disch := omega) only [gUp_ne2, gUp_eq2, hFA, hqA, hxA, hFG2, hqG2, hFB, hqB, hxB, hFT3, hFT2, hFT1, hFS]; done
               · exact hqD
               · simp (disch := omega) only [gUp_ne2, gUp_eq2, hFA, hqA, hxA, hFG2, hqG2, hFB, hqB, hxB, hFT3, hFT2, hFT1, hFS, hn]; done)
            | (refine k0 qC _ ?_ ?_ ?_ ?_
               · simp [pEater, Bind.bind, Except.bind, Pure.pure, Except.pure, *]; done
               · intro a j hn; simp (disch := omega) only [gUp_ne2, gUp_eq2, hFA, hqA, hxA, hFG2, hqG2, hFB, hqB, hxB, hFT3, hFT2, hFT1, hFS]; done
               · exact hqG4
               · simp (disch := omega) only [gUp_ne2, gUp_eq2, hFA, hqA, hxA, hFG2, hqG2, hFB, hqB, hxB, hFT3, hFT2, hFT1, hFS, hn]; done)
            | (refine k0 qC _ ?_ ?_ ?_ ?_
               · simp [pEater, Bind.bind, Except.bind, Pure.pure, Except.pure, *]; done
               · intro a j hn; simp (disch := omega) only [gUp_ne2, gUp_eq2, hFA, hqA, hxA, hFG2, hqG2, hFB, hqB, hxB, hFT2, hFT1, hFS]; done
               · exact hqC
               · simp (disch := omega) only [gUp_ne2, gUp_eq2, hFA, hqA, hxA, hFG2, hqG2, hFB, hqB, hxB, hFT2, hFT1, hFS, hn]; done)
            | (refine k0 qB _ ?_ ?_ ?_ ?_
               · simp [pEater, Bind.bind, Except.bind, Pure.pure, Except.pure, *]; done
               · intro a j hn; simp (disch := omega) only [gUp_ne2, gUp_eq2, hFA, hqA, hxA, hFG2, hqG2, hFB, hqB, hxB, hFT2, hFT1, hFS]; done
               · exact hqG3
               · simp (disch := omega) only [gUp_ne2, gUp_eq2, hFA, hqA, hxA, hFG2, hqG2, hFB, hqB, hxB, hFT2, hFT1, hFS, hn]; done)
            | (refine k0 qB _ ?_ ?_ ?_ ?_
               · simp [pEater, Bind.bind, Except.bind, Pure.pure, Except.pure, *]; done
               · intro a j hn; simp (disch := omega) only [gUp_ne2, gUp_eq2, hFA, hqA, hxA, hFG2, hqG2, hFB, hqB, hxB, hFT1, hFS]; done
               · exact hqB
               · simp (disch := omega) only [gUp_ne2, gUp_eq2, hFA, hqA, hxA, hFG2, hqG2, hFB, hqB, hxB, hFT1, hFS, hn]; done)
            | (refine k0 qA _ ?_ ?_ ?_ ?_
               · simp [pEater, Bind.bind, Except.bind, Pure.pure, Except.pure, *]; done
               · intro a j hn; simp (disch := omega) only [gUp_ne2, gUp_eq2, hFA, hqA, hxA, hFG2, hqG2, hFB, hqB, hxB, hFT1, hFS]; done
               · exact hqG2
               · simp (disch := omega) only [gUp_ne2, gUp_eq2, hFA, hqA, hxA, hFG2, hqG2, hFB, hqB, hxB, hFT1, hFS, hn]; done)
            | (refine k0 qA _ ?_ ?_ ?_ ?_
               · simp [pEater, Bind.bind, Except.bind, Pure.pure, Except.pure, *]; done
               · intro a j hn; simp (disch := omega) only [gUp_ne2, gUp_eq2, hFA, hqA, hxA, hFG2, hqG2, hFB, hqB, hxB, hFS]; done
               · exact hqA
               · simp (disch := omega) only [gUp_ne2, gUp_eq2, hFA, hqA, hxA, hFG2, hqG2, hFB, hqB, hxB, hFS, hn]; done)
      · refine Gx_if_eq (tgt := 86) dX2_readsEater_45 (by decide) (fun _ => ?_) (fun hz => absurd hz (by decide))
        refine Gx_iconst ⟨by decide, by decide⟩ dX2_readsEater_86 ?_
        refine Gx_ireturn dX2_readsEater_87 (Or.inl rfl) ?_
        first
          | (refine k0 qD _ ?_ ?_ ?_ ?_
             · simp [pEater, Bind.bind, Except.bind, Pure.pure, Except.pure, *]; done
             · intro a j hn; simp (disch := omega) only [gUp_ne2, gUp_eq2, hFA, hqA, hxA, hFG2, hqG2, hFT3, hFT2, hFT1, hFS]; done
             · exact hqD
             · simp (disch := omega) only [gUp_ne2, gUp_eq2, hFA, hqA, hxA, hFG2, hqG2, hFT3, hFT2, hFT1, hFS, hn]; done)
          | (refine k0 qC _ ?_ ?_ ?_ ?_
             · simp [pEater, Bind.bind, Except.bind, Pure.pure, Except.pure, *]; done
             · intro a j hn; simp (disch := omega) only [gUp_ne2, gUp_eq2, hFA, hqA, hxA, hFG2, hqG2, hFT3, hFT2, hFT1, hFS]; done
             · exact hqG4
             · simp (disch := omega) only [gUp_ne2, gUp_eq2, hFA, hqA, hxA, hFG2, hqG2, hFT3, hFT2, hFT1, hFS, hn]; done)
          | (refine k0 qC _ ?_ ?_ ?_ ?_
             · simp [pEater, Bind.bind, Except.bind, Pure.pure, Except.pure, *]; done
             · intro a j hn; simp (disch := omega) only [gUp_ne2, gUp_eq2, hFA, hqA, hxA, hFG2, hqG2, hFT2, hFT1, hFS]; done
             · exact hqC
             · simp (disch := omega) only [gUp_ne2, gUp_eq2, hFA, hqA, hxA, hFG2, hqG2, hFT2, hFT1, hFS, hn]; done)
          | (refine k0 qB _ ?_ ?_ ?_ ?_
             · simp [pEater, Bind.bind, Except.bind, Pure.pure, Except.pure, *]; done
             · intro a j hn; simp (disch := omega) only [gUp_ne2, gUp_eq2, hFA, hqA, hxA, hFG2, hqG2, hFT2, hFT1, hFS]; done
             · exact hqG3
             · simp (disch := omega) only [gUp_ne2, gUp_eq2, hFA, hqA, hxA, hFG2, hqG2, hFT2, hFT1, hFS, hn]; done)
          | (refine k0 qB _ ?_ ?_ ?_ ?_
             · simp [pEater, Bind.bind, Except.bind, Pure.pure, Except.pure, *]; done
             · intro a j hn; simp (disch := omega) only [gUp_ne2, gUp_eq2, hFA, hqA, hxA, hFG2, hqG2, hFT1, hFS]; done
             · exact hqB
             · simp (disch := omega) only [gUp_ne2, gUp_eq2, hFA, hqA, hxA, hFG2, hqG2, hFT1, hFS, hn]; done)
          | (refine k0 qA _ ?_ ?_ ?_ ?_
             · simp [pEater, Bind.bind, Except.bind, Pure.pure, Except.pure, *]; done
             · intro a j hn; simp (disch := omega) only [gUp_ne2, gUp_eq2, hFA, hqA, hxA, hFG2, hqG2, hFT1, hFS]; done
             · exact hqG2
             · simp (disch := omega) only [gUp_ne2, gUp_eq2, hFA, hqA, hxA, hFG2, hqG2, hFT1, hFS, hn]; done)
          | (refine k0 qA _ ?_ ?_ ?_ ?_
             · simp [pEater, Bind.bind, Except.bind, Pure.pure, Except.pure, *]; done
             · intro a j hn; simp (disch := omega) only [gUp_ne2, gUp_eq2, hFA, hqA, hxA, hFG2, hqG2, hFS]; done
             · exact hqA
             · simp (disch := omega) only [gUp_ne2, gUp_eq2, hFA, hqA, hxA, hFG2, hqG2, hFS, hn]; done)
    · refine Gx_if_ne (tgt := 88) dX2_readsEater_83 (by decide) (fun hz => absurd hz (by decide)) (fun _ => ?_)
      refine Gx_iconst ⟨by decide, by decide⟩ dX2_readsEater_86 ?_
      refine Gx_ireturn dX2_readsEater_87 (Or.inl rfl) ?_
      first
        | (refine k0 qD _ ?_ ?_ ?_ ?_
           · simp [pEater, Bind.bind, Except.bind, Pure.pure, Except.pure, *]; done
           · intro a j hn; simp (disch := omega) only [gUp_ne2, gUp_eq2, hFA, hqA, hxA, hFT3, hFT2, hFT1, hFS]; done
           · exact hqD
           · simp (disch := omega) only [gUp_ne2, gUp_eq2, hFA, hqA, hxA, hFT3, hFT2, hFT1, hFS, hn]; done)
        | (refine k0 qC _ ?_ ?_ ?_ ?_
           · simp [pEater, Bind.bind, Except.bind, Pure.pure, Except.pure, *]; done
           · intro a j hn; simp (disch := omega) only [gUp_ne2, gUp_eq2, hFA, hqA, hxA, hFT3, hFT2, hFT1, hFS]; done
           · exact hqG4
           · simp (disch := omega) only [gUp_ne2, gUp_eq2, hFA, hqA, hxA, hFT3, hFT2, hFT1, hFS, hn]; done)
        | (refine k0 qC _ ?_ ?_ ?_ ?_
           · simp [pEater, Bind.bind, Except.bind, Pure.pure, Except.pure, *]; done
           · intro a j hn; simp (disch := omega) only [gUp_ne2, gUp_eq2, hFA, hqA, hxA, hFT2, hFT1, hFS]; done
           · exact hqC
           · simp (disch := omega) only [gUp_ne2, gUp_eq2, hFA, hqA, hxA, hFT2, hFT1, hFS, hn]; done)
        | (refine k0 qB _ ?_ ?_ ?_ ?_
           · simp [pEater, Bind.bind, Except.bind, Pure.pure, Except.pure, *]; done
           · intro a j hn; simp (disch := omega) only [gUp_ne2, gUp_eq2, hFA, hqA, hxA, hFT2, hFT1, hFS]; done
           · exact hqG3
           · simp (disch := omega) only [gUp_ne2, gUp_eq2, hFA, hqA, hxA, hFT2, hFT1, hFS, hn]; done)
        | (refine k0 qB _ ?_ ?_ ?_ ?_
           · simp [pEater, Bind.bind, Except.bind, Pure.pure, Except.pure, *]; done
           · intro a j hn; simp (disch := omega) only [gUp_ne2, gUp_eq2, hFA, hqA, hxA, hFT1, hFS]; done
           · exact hqB
           · simp (disch := omega) only [gUp_ne2, gUp_eq2, hFA, hqA, hxA, hFT1, hFS, hn]; done)
        | (refine k0 qA _ ?_ ?_ ?_ ?_
           · simp [pEater, Bind.bind, Except.bind, Pure.pure, Except.pure, *]; done
           · intro a j hn; simp (disch := omega) only [gUp_ne2, gUp_eq2, hFA, hqA, hxA, hFT1, hFS]; done
           · exact hqG2
           · simp (disch := omega) only [gUp_ne2, gUp_eq2, hFA, hqA, hxA, hFT1, hFS, hn]; done)
        | (refine k0 qA _ ?_ ?_ ?_ ?_
           · simp [pEater, Bind.bind, Except.bind, Pure.pure, Except.pure, *]; done
           · intro a j hn; simp (disch := omega) only [gUp_ne2, gUp_eq2, hFA, hqA, hxA, hFS]; done
           · exact hqA
           · simp (disch := omega) only [gUp_ne2, gUp_eq2, hFA, hqA, hxA, hFS, hn]; done)
  · refine Gx_iconst ⟨by decide, by decide⟩ dX2_readsEater_8 ?_
    refine Gx_ireturn dX2_readsEater_9 (Or.inl rfl) ?_
    exfalso
    omega
set_option maxHeartbeats 4000000 in
theorem ct_X2_readsChances {r q0 : Int} {b : pB} (hr : 0 ≤ r ∧ r ≤ 3) (hs : v 43 r ≤ 80) (hb : mB v r = b) (hq : v 38 10 = q0) (hp : 0 ≤ q0 ∧ q0 ≤ 400) (k1 : ∀ q x0 x1 x2 v1, pChan b (q0 + 1) = .ok (q, x0, x1, x2) → (∀ a j, ¬ ((a = 38 ∧ (j = 10 ∨ j = 11)) ∨ (a = 49 ∧ 0 ≤ j ∧ j ≤ 2)) → v1 a j = v a j) → v1 38 10 = q → v1 49 0 = x0 → v1 49 1 = x1 → v1 49 2 = x2 → Q (0, 1) v1 (gHd K) t) (k0 : ∀ q v1, pChan b (q0 + 1) = .error q → (∀ a j, ¬ ((a = 38 ∧ (j = 10 ∨ j = 11)) ∨ (a = 49 ∧ 0 ≤ j ∧ j ≤ 2)) → v1 a j = v a j) → v1 38 10 = q → Q (0, 0) v1 (gHd K) t) : Ctr Γ mX2_readsChances [(2, 38), (0, r)] v (gHd K) t Q := by
  refine Ctr.ofG (ls := [(2, 38), (0, r), (9, 0), (9, 0)]) rfl rfl rfl rfl rfl ?_
  refine Gx_aload_n (i := 0) dX2_readsChances_0 rfl rfl ?_
  refine Gx_dup (Nat.ne_of_beq_eq_false rfl) dX2_readsChances_1 ?_
  refine gf_X2_132_22 dX2_readsChances_2 rfl rfl ?_
  refine Gx_iconst ⟨by decide, by decide⟩ dX2_readsChances_5 ?_
  refine Gx_iadd dX2_readsChances_6 ?_
  try simp (disch := omega) only [w32_id]
  refine pf_X2_132_22 dX2_readsChances_7 rfl rfl ?_
  refine Gx_iconst ⟨by decide, by decide⟩ dX2_readsChances_10 ?_
  refine Gx_istore_n_2 dX2_readsChances_11 (Nat.le_of_ble_eq_true rfl) (Nat.ne_of_beq_eq_false rfl) ?_
  refine Gx_iconst ⟨by decide, by decide⟩ dX2_readsChances_12 ?_
  refine Gx_istore_n_3 dX2_readsChances_13 (Nat.le_of_ble_eq_true rfl) (Nat.ne_of_beq_eq_false rfl) ?_
  refine Gx_name (fun vS eS => ?_)
  have hFS : ∀ a j, ¬ (a = 38 ∧ j = 10) → vS a j = v a j := by
    intro a j hn
    rw [eS]
    simp (disch := omega) only [gUp_ne2, gUp_eq2]
  have hqS : vS 38 10 = q0 + 1 := by
    rw [eS]
    simp (disch := omega) only [gUp_ne2, gUp_eq2, hq]
  have hbS : mB vS r = b := mB_of (fun j => hFS 43 j (by omega)) (fun j => hFS 44 j (by omega)) hb
  have hsS : vS 43 r ≤ 80 := by rw [hFS 43 r (by omega)]; exact hs
  refine Gx_iload_n (i := 3) dX2_readsChances_14 rfl rfl ?_
  refine Gx_iconst ⟨by decide, by decide⟩ dX2_readsChances_15 ?_
  refine Gx_icmp_ge (tgt := 70) dX2_readsChances_16 (by decide) (fun hz => absurd hz (by decide)) (fun _ => ?_)
  refine Gx_iload_n (i := 3) dX2_readsChances_19 rfl rfl ?_
  refine Gx_if_le (tgt := 33) dX2_readsChances_20 (by decide) (fun _ => ?_) (fun hz => absurd hz (by decide))
  refine Gx_aload_n (i := 0) dX2_readsChances_33 rfl rfl ?_
  refine Gx_iload_n (i := 1) dX2_readsChances_34 rfl rfl ?_
  refine Gx_iconst ⟨by decide, by decide⟩ dX2_readsChances_35 ?_
  refine Gx_iconst ⟨by decide, by decide⟩ dX2_readsChances_36 ?_
  refine Gx_bipush dX2_readsChances_37 ⟨by decide, by decide⟩ ?_
  refine cl_X2_147 dX2_readsChances_39 rfl rfl ⟨(Nat.le_of_ble_eq_true rfl), (Nat.le_of_ble_eq_true rfl)⟩ rfl ?_
  refine ct_X2_readsP (q0 := (q0 + 1)) (f := 2) hr hsS hbS hqS (by omega) rfl (by omega) (fun qA xA vA cA bA hFA hqA hxA hbA hsA => ?_) (fun qA xA vA hzA cA bA hFA hqA hxA hbA hsA => ?_)
  · refine Gx_if_ne (tgt := 47) dX2_readsChances_42 (by decide) (fun _ => ?_) (fun hz => absurd hz (by decide))
    refine Gx_aload_n (i := 0) dX2_readsChances_47 rfl rfl ?_
    refine gf_X2_41_22 dX2_readsChances_48 rfl rfl ?_
    refine Gx_iload_n (i := 3) dX2_readsChances_51 rfl rfl ?_
    refine Gx_aload_n (i := 0) dX2_readsChances_52 rfl rfl ?_
    refine gf_X2_138_22 dX2_readsChances_53 rfl rfl ?_
    refine Gx_iastore dX2_readsChances_56 rfl (by first | omega | (simp (disch := omega) only [w32_id]; omega)) ?_
    refine Gx_iload_n (i := 2) dX2_readsChances_57 rfl rfl ?_
    refine Gx_aload_n (i := 0) dX2_readsChances_58 rfl rfl ?_
    refine gf_X2_138_22 dX2_readsChances_59 rfl rfl ?_
    rw [show gUp vA 49 0 (vA 38 11) 38 11 = xA from hxA]
    refine Gx_iadd dX2_readsChances_62 ?_
    try simp (disch := omega) only [w32_id]
    refine Gx_istore_n_2 dX2_readsChances_63 (Nat.le_of_ble_eq_true rfl) (Nat.ne_of_beq_eq_false rfl) ?_
    refine Gx_iinc_3 dX2_readsChances_64 (Nat.le_of_ble_eq_true rfl) (Nat.ne_of_beq_eq_false rfl) ?_
    rw [show w32 (0 + 1) = (1 : Int) from by decide]
    refine Gx_goto (tgt := 14) dX2_readsChances_67 (by decide) ?_
    rw [hxA]
    try simp (disch := omega) only [w32_id]
    refine Gx_name (fun vT1 eT1 => ?_)
    have hFT1 : ∀ a j, ¬ (a = 49 ∧ j = 0) → vT1 a j = vA a j := by
      intro a j hn
      rw [eT1]
      simp (disch := omega) only [gUp_ne2, gUp_eq2]
    have hyT1 : vT1 49 0 = xA := by
      rw [eT1]
      simp (disch := omega) only [gUp_ne2, gUp_eq2, hxA, hqA]
    have hqT1 : vT1 38 10 = qA := by
      rw [eT1]
      simp (disch := omega) only [gUp_ne2, gUp_eq2, hxA, hqA]
    have hbT1 : mB vT1 r = b := mB_of (fun j => hFT1 43 j (by omega)) (fun j => hFT1 44 j (by omega)) hbA
    have hsT1 : vT1 43 r ≤ 80 := by rw [hFT1 43 r (by omega)]; exact hsA
    refine Gx_iload_n (i := 3) dX2_readsChances_14 rfl rfl ?_
    refine Gx_iconst ⟨by decide, by decide⟩ dX2_readsChances_15 ?_
    refine Gx_icmp_ge (tgt := 70) dX2_readsChances_16 (by decide) (fun hz => absurd hz (by decide)) (fun _ => ?_)
    refine Gx_iload_n (i := 3) dX2_readsChances_19 rfl rfl ?_
    refine Gx_if_le (tgt := 33) dX2_readsChances_20 (by decide) (fun hz => absurd hz (by decide)) (fun _ => ?_)
    refine Gx_aload_n (i := 0) dX2_readsChances_23 rfl rfl ?_
    refine Gx_iload_n (i := 1) dX2_readsChances_24 rfl rfl ?_
    refine Gx_bipush dX2_readsChances_25 ⟨by decide, by decide⟩ ?_
    refine cl_X2_154 dX2_readsChances_27 rfl rfl ⟨(Nat.le_of_ble_eq_true rfl), (Nat.le_of_ble_eq_true rfl)⟩ rfl ?_
    refine ct_X2_signP (q0 := qA) hr hsT1 hbT1 hqT1 (by omega) (fun vG2 cG2 hFG2 hqG2 hbG2 hsG2 => ?_) (fun vG2 cG2 hFG2 hqG2 hbG2 hsG2 => ?_)
    · refine Gx_if_eq (tgt := 45) dX2_readsChances_30 (by decide) (fun hz => absurd hz (by decide)) (fun _ => ?_)
      refine Gx_aload_n (i := 0) dX2_readsChances_33 rfl rfl ?_
      refine Gx_iload_n (i := 1) dX2_readsChances_34 rfl rfl ?_
      refine Gx_iconst ⟨by decide, by decide⟩ dX2_readsChances_35 ?_
      refine Gx_iconst ⟨by decide, by decide⟩ dX2_readsChances_36 ?_
      refine Gx_bipush dX2_readsChances_37 ⟨by decide, by decide⟩ ?_
      refine cl_X2_147 dX2_readsChances_39 rfl rfl ⟨(Nat.le_of_ble_eq_true rfl), (Nat.le_of_ble_eq_true rfl)⟩ rfl ?_
      refine ct_X2_readsP (q0 := (qA + 1)) (f := 2) hr hsG2 hbG2 hqG2 (by omega) rfl (by omega) (fun qB xB vB cB bB hFB hqB hxB hbB hsB => ?_) (fun qB xB vB hzB cB bB hFB hqB hxB hbB hsB => ?_)
      · refine Gx_if_ne (tgt := 47) dX2_readsChances_42 (by decide) (fun _ => ?_) (fun hz => absurd hz (by decide))
        refine Gx_aload_n (i := 0) dX2_readsChances_47 rfl rfl ?_
        refine gf_X2_41_22 dX2_readsChances_48 rfl rfl ?_
        refine Gx_iload_n (i := 3) dX2_readsChances_51 rfl rfl ?_
        refine Gx_aload_n (i := 0) dX2_readsChances_52 rfl rfl ?_
        refine gf_X2_138_22 dX2_readsChances_53 rfl rfl ?_
        refine Gx_iastore dX2_readsChances_56 rfl (by first | omega | (simp (disch := omega) only [w32_id]; omega)) ?_
        refine Gx_iload_n (i := 2) dX2_readsChances_57 rfl rfl ?_
        refine Gx_aload_n (i := 0) dX2_readsChances_58 rfl rfl ?_
        refine gf_X2_138_22 dX2_readsChances_59 rfl rfl ?_
        rw [show gUp vB 49 1 (vB 38 11) 38 11 = xB from hxB]
        refine Gx_iadd dX2_readsChances_62 ?_
        try simp (disch := omega) only [w32_id]
        refine Gx_istore_n_2 dX2_readsChances_63 (Nat.le_of_ble_eq_true rfl) (Nat.ne_of_beq_eq_false rfl) ?_
        refine Gx_iinc_3 dX2_readsChances_64 (Nat.le_of_ble_eq_true rfl) (Nat.ne_of_beq_eq_false rfl) ?_
        rw [show w32 (1 + 1) = (2 : Int) from by decide]
        refine Gx_goto (tgt := 14) dX2_readsChances_67 (by decide) ?_
        rw [hxB]
        try simp (disch := omega) only [w32_id]
        refine Gx_name (fun vT2 eT2 => ?_)
        have hFT2 : ∀ a j, ¬ (a = 49 ∧ j = 1) → vT2 a j = vB a j := by
          intro a j hn
          rw [eT2]
          simp (disch := omega) only [gUp_ne2, gUp_eq2]
        have hyT2 : vT2 49 1 = xB := by
          rw [eT2]
          simp (disch := omega) only [gUp_ne2, gUp_eq2, hxB, hqB]
        have hqT2 : vT2 38 10 = qB := by
          rw [eT2]
          simp (disch := omega) only [gUp_ne2, gUp_eq2, hxB, hqB]
        have hbT2 : mB vT2 r = b := mB_of (fun j => hFT2 43 j (by omega)) (fun j => hFT2 44 j (by omega)) hbB
        have hsT2 : vT2 43 r ≤ 80 := by rw [hFT2 43 r (by omega)]; exact hsB
        refine Gx_iload_n (i := 3) dX2_readsChances_14 rfl rfl ?_
        refine Gx_iconst ⟨by decide, by decide⟩ dX2_readsChances_15 ?_
        refine Gx_icmp_ge (tgt := 70) dX2_readsChances_16 (by decide) (fun hz => absurd hz (by decide)) (fun _ => ?_)
        refine Gx_iload_n (i := 3) dX2_readsChances_19 rfl rfl ?_
        refine Gx_if_le (tgt := 33) dX2_readsChances_20 (by decide) (fun hz => absurd hz (by decide)) (fun _ => ?_)
        refine Gx_aload_n (i := 0) dX2_readsChances_23 rfl rfl ?_
        refine Gx_iload_n (i := 1) dX2_readsChances_24 rfl rfl ?_
        refine Gx_bipush dX2_readsChances_25 ⟨by decide, by decide⟩ ?_
        refine cl_X2_154 dX2_readsChances_27 rfl rfl ⟨(Nat.le_of_ble_eq_true rfl), (Nat.le_of_ble_eq_true rfl)⟩ rfl ?_
        refine ct_X2_signP (q0 := qB) hr hsT2 hbT2 hqT2 (by omega) (fun vG3 cG3 hFG3 hqG3 hbG3 hsG3 => ?_) (fun vG3 cG3 hFG3 hqG3 hbG3 hsG3 => ?_)
        · refine Gx_if_eq (tgt := 45) dX2_readsChances_30 (by decide) (fun hz => absurd hz (by decide)) (fun _ => ?_)
          refine Gx_aload_n (i := 0) dX2_readsChances_33 rfl rfl ?_
          refine Gx_iload_n (i := 1) dX2_readsChances_34 rfl rfl ?_
          refine Gx_iconst ⟨by decide, by decide⟩ dX2_readsChances_35 ?_
          refine Gx_iconst ⟨by decide, by decide⟩ dX2_readsChances_36 ?_
          refine Gx_bipush dX2_readsChances_37 ⟨by decide, by decide⟩ ?_
          refine cl_X2_147 dX2_readsChances_39 rfl rfl ⟨(Nat.le_of_ble_eq_true rfl), (Nat.le_of_ble_eq_true rfl)⟩ rfl ?_
          refine ct_X2_readsP (q0 := (qB + 1)) (f := 2) hr hsG3 hbG3 hqG3 (by omega) rfl (by omega) (fun qC xC vC cC bC hFC hqC hxC hbC hsC => ?_) (fun qC xC vC hzC cC bC hFC hqC hxC hbC hsC => ?_)
          · refine Gx_if_ne (tgt := 47) dX2_readsChances_42 (by decide) (fun _ => ?_) (fun hz => absurd hz (by decide))
            refine Gx_aload_n (i := 0) dX2_readsChances_47 rfl rfl ?_
            refine gf_X2_41_22 dX2_readsChances_48 rfl rfl ?_
            refine Gx_iload_n (i := 3) dX2_readsChances_51 rfl rfl ?_
            refine Gx_aload_n (i := 0) dX2_readsChances_52 rfl rfl ?_
            refine gf_X2_138_22 dX2_readsChances_53 rfl rfl ?_
            refine Gx_iastore dX2_readsChances_56 rfl (by first | omega | (simp (disch := omega) only [w32_id]; omega)) ?_
            refine Gx_iload_n (i := 2) dX2_readsChances_57 rfl rfl ?_
            refine Gx_aload_n (i := 0) dX2_readsChances_58 rfl rfl ?_
            refine gf_X2_138_22 dX2_readsChances_59 rfl rfl ?_
            rw [show gUp vC 49 2 (vC 38 11) 38 11 = xC from hxC]
            refine Gx_iadd dX2_readsChances_62 ?_
            try simp (disch := omega) only [w32_id]
            refine Gx_istore_n_2 dX2_readsChances_63 (Nat.le_of_ble_eq_true rfl) (Nat.ne_of_beq_eq_false rfl) ?_
            refine Gx_iinc_3 dX2_readsChances_64 (Nat.le_of_ble_eq_true rfl) (Nat.ne_of_beq_eq_false rfl) ?_
            rw [show w32 (2 + 1) = (3 : Int) from by decide]
            refine Gx_goto (tgt := 14) dX2_readsChances_67 (by decide) ?_
            rw [hxC]
            try simp (disch := omega) only [w32_id]
            refine Gx_name (fun vT3 eT3 => ?_)
            have hFT3 : ∀ a j, ¬ (a = 49 ∧ j = 2) → vT3 a j = vC a j := by
              intro a j hn
              rw [eT3]
              simp (disch := omega) only [gUp_ne2, gUp_eq2]
            have hyT3 : vT3 49 2 = xC := by
              rw [eT3]
              simp (disch := omega) only [gUp_ne2, gUp_eq2, hxC, hqC]
            have hqT3 : vT3 38 10 = qC := by
              rw [eT3]
              simp (disch := omega) only [gUp_ne2, gUp_eq2, hxC, hqC]
            have hbT3 : mB vT3 r = b := mB_of (fun j => hFT3 43 j (by omega)) (fun j => hFT3 44 j (by omega)) hbC
            have hsT3 : vT3 43 r ≤ 80 := by rw [hFT3 43 r (by omega)]; exact hsC
            refine Gx_iload_n (i := 3) dX2_readsChances_14 rfl rfl ?_
            refine Gx_iconst ⟨by decide, by decide⟩ dX2_readsChances_15 ?_
            refine Gx_icmp_ge (tgt := 70) dX2_readsChances_16 (by decide) (fun _ => ?_) (fun hz => absurd hz (by decide))
            refine Gx_iload_n (i := 2) dX2_readsChances_70 rfl rfl ?_
            refine Gx_bipush dX2_readsChances_71 ⟨by decide, by decide⟩ ?_
            refine Gx_icmp_ne (tgt := 80) dX2_readsChances_73 (by decide) (fun c73 => ?_) (fun c73 => ?_)
            · refine Gx_iconst ⟨by decide, by decide⟩ dX2_readsChances_80 ?_
              refine Gx_ireturn dX2_readsChances_81 (Or.inl rfl) ?_
              have hsum : (xA + xB + xC = 12) ∨ ¬ (xA + xB + xC = 12) := by omega
              first
                | (refine k1 qC xA xB xC _ ?_ ?_ ?_ ?_ ?_ ?_
                   · have h12 : xA + xB + xC = 12 := by omega
                     simp [pChan, Bind.bind, Except.bind, Pure.pure, Except.pure, *]; done
                   · intro a j hn; simp (disch := omega) only [gUp_ne2, gUp_eq2, hFA, hqA, hxA, hFG2, hqG2, hFB, hqB, hxB, hFG3, hqG3, hFC, hqC, hxC, hFT3, hFT2, hFT1, hFS]; done
                   · exact hqT3
                   · simp (disch := omega) only [gUp_ne2, gUp_eq2, hFA, hqA, hxA, hFG2, hqG2, hFB, hqB, hxB, hFG3, hqG3, hFC, hqC, hxC, hFT3, hFT2, hFT1, hFS, hyT1]; done
                   · simp (disch := omega) only [gUp_ne2, gUp_eq2, hFA, hqA, hxA, hFG2, hqG2, hFB, hqB, hxB, hFG3, hqG3, hFC, hqC, hxC, hFT3, hFT2, hFT1, hFS, hyT2]; done
                   · simp (disch := omega) only [gUp_ne2, gUp_eq2, hFA, hqA, hxA, hFG2, hqG2, hFB, hqB, hxB, hFG3, hqG3, hFC, hqC, hxC, hFT3, hFT2, hFT1, hFS, hyT3]; done)
                | (refine k0 qC _ ?_ ?_ ?_
                   · have h12 : ¬ (xA + xB + xC = 12) := by omega
                     simp [pChan, Bind.bind, Except.bind, Pure.pure, Except.pure, *]; done
                   · intro a j hn; simp (disch := omega) only [gUp_ne2, gUp_eq2, hFA, hqA, hxA, hFG2, hqG2, hFB, hqB, hxB, hFG3, hqG3, hFC, hqC, hxC, hFT3, hFT2, hFT1, hFS]; done
                   · exact hqT3)
            · refine Gx_iconst ⟨by decide, by decide⟩ dX2_readsChances_76 ?_
              refine Gx_goto (tgt := 81) dX2_readsChances_77 (by decide) ?_
              refine Gx_ireturn dX2_readsChances_81 (Or.inr rfl) ?_
              have hsum : (xA + xB + xC = 12) ∨ ¬ (xA + xB + xC = 12) := by omega
              first
                | (refine k1 qC xA xB xC _ ?_ ?_ ?_ ?_ ?_ ?_
                   · have h12 : xA + xB + xC = 12 := by omega
                     simp [pChan, Bind.bind, Except.bind, Pure.pure, Except.pure, *]; done
                   · intro a j hn; simp (disch := omega) only [gUp_ne2, gUp_eq2, hFA, hqA, hxA, hFG2, hqG2, hFB, hqB, hxB, hFG3, hqG3, hFC, hqC, hxC, hFT3, hFT2, hFT1, hFS]; done
                   · exact hqT3
                   · simp (disch := omega) only [gUp_ne2, gUp_eq2, hFA, hqA, hxA, hFG2, hqG2, hFB, hqB, hxB, hFG3, hqG3, hFC, hqC, hxC, hFT3, hFT2, hFT1, hFS, hyT1]; done
                   · simp (disch := omega) only [gUp_ne2, gUp_eq2, hFA, hqA, hxA, hFG2, hqG2, hFB, hqB, hxB, hFG3, hqG3, hFC, hqC, hxC, hFT3, hFT2, hFT1, hFS, hyT2]; done
                   · simp (disch := omega) only [gUp_ne2, gUp_eq2, hFA, hqA, hxA, hFG2, hqG2, hFB, hqB, hxB, hFG3, hqG3, hFC, hqC, hxC, hFT3, hFT2, hFT1, hFS, hyT3]; done)
                | (refine k0 qC _ ?_ ?_ ?_
                   · have h12 : ¬ (xA + xB + xC = 12) := by omega
                     simp [pChan, Bind.bind, Except.bind, Pure.pure, Except.pure, *]; done
                   · intro a j hn; simp (disch := omega) only [gUp_ne2, gUp_eq2, hFA, hqA, hxA, hFG2, hqG2, hFB, hqB, hxB, hFG3, hqG3, hFC, hqC, hxC, hFT3, hFT2, hFT1, hFS]; done
                   · exact hqT3)
          · refine Gx_if_ne (tgt := 47) dX2_readsChances_42 (by decide) (fun hz => absurd hz (by decide)) (fun _ => ?_)
            refine Gx_iconst ⟨by decide, by decide⟩ dX2_readsChances_45 ?_
            refine Gx_ireturn dX2_readsChances_46 (Or.inl rfl) ?_
            first
              | (refine k0 qC _ ?_ ?_ ?_
                 · simp [pChan, Bind.bind, Except.bind, Pure.pure, Except.pure, *]; done
                 · intro a j hn; simp (disch := omega) only [gUp_ne2, gUp_eq2, hFA, hqA, hxA, hFG2, hqG2, hFB, hqB, hxB, hFG3, hqG3, hFC, hqC, hxC, hFT2, hFT1, hFS]; done
                 · exact hqC)
              | (refine k0 qB _ ?_ ?_ ?_
                 · simp [pChan, Bind.bind, Except.bind, Pure.pure, Except.pure, *]; done
                 · intro a j hn; simp (disch := omega) only [gUp_ne2, gUp_eq2, hFA, hqA, hxA, hFG2, hqG2, hFB, hqB, hxB, hFG3, hqG3, hFC, hqC, hxC, hFT2, hFT1, hFS]; done
                 · exact hqG3)
              | (refine k0 qB _ ?_ ?_ ?_
                 · simp [pChan, Bind.bind, Except.bind, Pure.pure, Except.pure, *]; done
                 · intro a j hn; simp (disch := omega) only [gUp_ne2, gUp_eq2, hFA, hqA, hxA, hFG2, hqG2, hFB, hqB, hxB, hFG3, hqG3, hFC, hqC, hxC, hFT1, hFS]; done
                 · exact hqB)
              | (refine k0 qA _ ?_ ?_ ?_
                 · simp [pChan, Bind.bind, Except.bind, Pure.pure, Except.pure, *]; done
                 · intro a j hn; simp (disch := omega) only [gUp_ne2, gUp_eq2, hFA, hqA, hxA, hFG2, hqG2, hFB, hqB, hxB, hFG3, hqG3, hFC, hqC, hxC, hFT1, hFS]; done
                 · exact hqG2)
              | (refine k0 qA _ ?_ ?_ ?_
                 · simp [pChan, Bind.bind, Except.bind, Pure.pure, Except.pure, *]; done
                 · intro a j hn; simp (disch := omega) only [gUp_ne2, gUp_eq2, hFA, hqA, hxA, hFG2, hqG2, hFB, hqB, hxB, hFG3, hqG3, hFC, hqC, hxC, hFS]; done
                 · exact hqA)
        · refine Gx_if_eq (tgt := 45) dX2_readsChances_30 (by decide) (fun _ => ?_) (fun hz => absurd hz (by decide))
          refine Gx_iconst ⟨by decide, by decide⟩ dX2_readsChances_45 ?_
          refine Gx_ireturn dX2_readsChances_46 (Or.inl rfl) ?_
          first
            | (refine k0 qC _ ?_ ?_ ?_
               · simp [pChan, Bind.bind, Except.bind, Pure.pure, Except.pure, *]; done
               · intro a j hn; simp (disch := omega) only [gUp_ne2, gUp_eq2, hFA, hqA, hxA, hFG2, hqG2, hFB, hqB, hxB, hFG3, hqG3, hFT2, hFT1, hFS]; done
               · exact hqC)
            | (refine k0 qB _ ?_ ?_ ?_
               · simp [pChan, Bind.bind, Except.bind, Pure.pure, Except.pure, *]; done
               · intro a j hn; simp (disch := omega) only [gUp_ne2, gUp_eq2, hFA, hqA, hxA, hFG2, hqG2, hFB, hqB, hxB, hFG3, hqG3, hFT2, hFT1, hFS]; done
               · exact hqG3)
            | (refine k0 qB _ ?_ ?_ ?_
               · simp [pChan, Bind.bind, Except.bind, Pure.pure, Except.pure, *]; done
               · intro a j hn; simp (disch := omega) only [gUp_ne2, gUp_eq2, hFA, hqA, hxA, hFG2, hqG2, hFB, hqB, hxB, hFG3, hqG3, hFT1, hFS]; done
               · exact hqB)
            | (refine k0 qA _ ?_ ?_ ?_
               · simp [pChan, Bind.bind, Except.bind, Pure.pure, Except.pure, *]; done
               · intro a j hn; simp (disch := omega) only [gUp_ne2, gUp_eq2, hFA, hqA, hxA, hFG2, hqG2, hFB, hqB, hxB, hFG3, hqG3, hFT1, hFS]; done
               · exact hqG2)
            | (refine k0 qA _ ?_ ?_ ?_
               · simp [pChan, Bind.bind, Except.bind, Pure.pure, Except.pure, *]; done
               · intro a j hn; simp (disch := omega) only [gUp_ne2, gUp_eq2, hFA, hqA, hxA, hFG2, hqG2, hFB, hqB, hxB, hFG3, hqG3, hFS]; done
               · exact hqA)
      · refine Gx_if_ne (tgt := 47) dX2_readsChances_42 (by decide) (fun hz => absurd hz (by decide)) (fun _ => ?_)
        refine Gx_iconst ⟨by decide, by decide⟩ dX2_readsChances_45 ?_
        refine Gx_ireturn dX2_readsChances_46 (Or.inl rfl) ?_
        first
          | (refine k0 qC _ ?_ ?_ ?_
             · simp [pChan, Bind.bind, Except.bind, Pure.pure, Except.pure, *]; done
             · intro a j hn; simp (disch := omega) only [gUp_ne2, gUp_eq2, hFA, hqA, hxA, hFG2, hqG2, hFB, hqB, hxB, hFT2, hFT1, hFS]; done
             · exact hqC)
          | (refine k0 qB _ ?_ ?_ ?_
             · simp [pChan, Bind.bind, Except.bind, Pure.pure, Except.pure, *]; done
             · intro a j hn; simp (disch := omega) only [gUp_ne2, gUp_eq2, hFA, hqA, hxA, hFG2, hqG2, hFB, hqB, hxB, hFT2, hFT1, hFS]; done
             · exact hqG3)
          | (refine k0 qB _ ?_ ?_ ?_
             · simp [pChan, Bind.bind, Except.bind, Pure.pure, Except.pure, *]; done
             · intro a j hn; simp (disch := omega) only [gUp_ne2, gUp_eq2, hFA, hqA, hxA, hFG2, hqG2, hFB, hqB, hxB, hFT1, hFS]; done
             · exact hqB)
          | (refine k0 qA _ ?_ ?_ ?_
             · simp [pChan, Bind.bind, Except.bind, Pure.pure, Except.pure, *]; done
             · intro a j hn; simp (disch := omega) only [gUp_ne2, gUp_eq2, hFA, hqA, hxA, hFG2, hqG2, hFB, hqB, hxB, hFT1, hFS]; done
             · exact hqG2)
          | (refine k0 qA _ ?_ ?_ ?_
             · simp [pChan, Bind.bind, Except.bind, Pure.pure, Except.pure, *]; done
             · intro a j hn; simp (disch := omega) only [gUp_ne2, gUp_eq2, hFA, hqA, hxA, hFG2, hqG2, hFB, hqB, hxB, hFS]; done
             · exact hqA)
    · refine Gx_if_eq (tgt := 45) dX2_readsChances_30 (by decide) (fun _ => ?_) (fun hz => absurd hz (by decide))
      refine Gx_iconst ⟨by decide, by decide⟩ dX2_readsChances_45 ?_
      refine Gx_ireturn dX2_readsChances_46 (Or.inl rfl) ?_
      first
        | (refine k0 qC _ ?_ ?_ ?_
           · simp [pChan, Bind.bind, Except.bind, Pure.pure, Except.pure, *]; done
           · intro a j hn; simp (disch := omega) only [gUp_ne2, gUp_eq2, hFA, hqA, hxA, hFG2, hqG2, hFT2, hFT1, hFS]; done
           · exact hqC)
        | (refine k0 qB _ ?_ ?_ ?_
           · simp [pChan, Bind.bind, Except.bind, Pure.pure, Except.pure, *]; done
           · intro a j hn; simp (disch := omega) only [gUp_ne2, gUp_eq2, hFA, hqA, hxA, hFG2, hqG2, hFT2, hFT1, hFS]; done
           · exact hqG3)
        | (refine k0 qB _ ?_ ?_ ?_
           · simp [pChan, Bind.bind, Except.bind, Pure.pure, Except.pure, *]; done
           · intro a j hn; simp (disch := omega) only [gUp_ne2, gUp_eq2, hFA, hqA, hxA, hFG2, hqG2, hFT1, hFS]; done
           · exact hqB)
        | (refine k0 qA _ ?_ ?_ ?_
           · simp [pChan, Bind.bind, Except.bind, Pure.pure, Except.pure, *]; done
           · intro a j hn; simp (disch := omega) only [gUp_ne2, gUp_eq2, hFA, hqA, hxA, hFG2, hqG2, hFT1, hFS]; done
           · exact hqG2)
        | (refine k0 qA _ ?_ ?_ ?_
           · simp [pChan, Bind.bind, Except.bind, Pure.pure, Except.pure, *]; done
           · intro a j hn; simp (disch := omega) only [gUp_ne2, gUp_eq2, hFA, hqA, hxA, hFG2, hqG2, hFS]; done
           · exact hqA)
  · refine Gx_if_ne (tgt := 47) dX2_readsChances_42 (by decide) (fun hz => absurd hz (by decide)) (fun _ => ?_)
    refine Gx_iconst ⟨by decide, by decide⟩ dX2_readsChances_45 ?_
    refine Gx_ireturn dX2_readsChances_46 (Or.inl rfl) ?_
    first
      | (refine k0 qC _ ?_ ?_ ?_
         · simp [pChan, Bind.bind, Except.bind, Pure.pure, Except.pure, *]; done
         · intro a j hn; simp (disch := omega) only [gUp_ne2, gUp_eq2, hFA, hqA, hxA, hFT2, hFT1, hFS]; done
         · exact hqC)
      | (refine k0 qB _ ?_ ?_ ?_
         · simp [pChan, Bind.bind, Except.bind, Pure.pure, Except.pure, *]; done
         · intro a j hn; simp (disch := omega) only [gUp_ne2, gUp_eq2, hFA, hqA, hxA, hFT2, hFT1, hFS]; done
         · exact hqG3)
      | (refine k0 qB _ ?_ ?_ ?_
         · simp [pChan, Bind.bind, Except.bind, Pure.pure, Except.pure, *]; done
         · intro a j hn; simp (disch := omega) only [gUp_ne2, gUp_eq2, hFA, hqA, hxA, hFT1, hFS]; done
         · exact hqB)
      | (refine k0 qA _ ?_ ?_ ?_
         · simp [pChan, Bind.bind, Except.bind, Pure.pure, Except.pure, *]; done
         · intro a j hn; simp (disch := omega) only [gUp_ne2, gUp_eq2, hFA, hqA, hxA, hFT1, hFS]; done
         · exact hqG2)
      | (refine k0 qA _ ?_ ?_ ?_
         · simp [pChan, Bind.bind, Except.bind, Pure.pure, Except.pure, *]; done
         · intro a j hn; simp (disch := omega) only [gUp_ne2, gUp_eq2, hFA, hqA, hxA, hFS]; done
         · exact hqA)
end
