/-! AcornYearsModel reads a calendar, an item, a text -/
section
variable {Γ : gC} {v : gM} {K : gH} {t : Nat} {Q : gQ}
set_option maxHeartbeats 2000000 in
theorem lp_X2_readsCalendar {r q : Int} {b : pB} {bc bs : Nat} (hr : 0 ≤ r ∧ r ≤ 3) (hq0 : 0 ≤ q ∧ q ≤ 600) : ∀ (j : Nat) (i : Int) (v : gM), 0 ≤ i → i + j = 8 → v 38 17 = i → v 38 10 = q + i → mB v r = b → v 43 r ≤ 80 →
    (∀ v1, (∀ a l, ¬ ((a = 38 ∧ (l = 10 ∨ l = 17)) ∨ (a = 48 ∧ i ≤ l ∧ l < 8)) → v1 a l = v a l) → v1 38 10 = q + i + pCnt b j (q + i) → v1 38 17 = i + pCnt b j (q + i) → (∀ l, i ≤ l → l < i + pCnt b j (q + i) → v1 48 l = b (q + l) - 48) → Gx Γ mX2_readsCalendar 87 [(2, 38), (0, r)] [] v1 (gHd K) t bc bs Q) →
    Gx Γ mX2_readsCalendar 15 [(2, 38), (0, r)] [] v (gHd K) t bc bs Q := by
  intro j
  induction j with
  | zero =>
    intro i v h0 h1 h2 h3 h4 h5 k
    refine Gx_aload_n (i := 0) dX2_readsCalendar_15 rfl rfl ?_
    refine gf_X2_164_22 dX2_readsCalendar_16 rfl rfl ?_
    refine Gx_bipush dX2_readsCalendar_19 ⟨by decide, by decide⟩ ?_
    refine Gx_icmp_ge (tgt := 87) dX2_readsCalendar_21 (by decide) (fun c21 => ?_) (fun c21 => ?_)
    · exact k v (fun a l hn => rfl) (by unfold pCnt; omega) (by unfold pCnt; omega) (fun l h5 h6 => by unfold pCnt at h6; omega)
    · exfalso
      omega
  | succ j ih =>
    intro i v h0 h1 h2 h3 h4 h5 k
    refine Gx_aload_n (i := 0) dX2_readsCalendar_15 rfl rfl ?_
    refine gf_X2_164_22 dX2_readsCalendar_16 rfl rfl ?_
    refine Gx_bipush dX2_readsCalendar_19 ⟨by decide, by decide⟩ ?_
    refine Gx_icmp_ge (tgt := 87) dX2_readsCalendar_21 (by decide) (fun c21 => ?_) (fun c21 => ?_)
    · first
        | (exfalso; omega)
        | (have hd : b (q + i) = sByte v r (v 38 10) := by rw [← h4, h3]; rfl
           have ec : pCnt b (j + 1) (q + i) = 0 := by
             show (if _ then _ else _) = _
             rw [if_neg (by rw [hd]; exact c37)]
           rw [ec] at k
           exact k v (fun a l hn => rfl) (by omega) (by omega) (fun l h5 h6 => by omega))
    · refine Gx_aload_n (i := 0) dX2_readsCalendar_24 rfl rfl ?_
      refine Gx_iload_n (i := 1) dX2_readsCalendar_25 rfl rfl ?_
      refine Gx_aload_n (i := 0) dX2_readsCalendar_26 rfl rfl ?_
      refine gf_X2_132_22 dX2_readsCalendar_27 rfl rfl ?_
      refine cl_X2_135 dX2_readsCalendar_30 rfl rfl ⟨(Nat.le_of_ble_eq_true rfl), (Nat.le_of_ble_eq_true rfl)⟩ rfl ?_
      refine ct_X2_byteAt (by omega) (by omega) (by omega) ?_
      refine Gx_bipush dX2_readsCalendar_33 ⟨by decide, by decide⟩ ?_
      refine Gx_bipush dX2_readsCalendar_35 ⟨by decide, by decide⟩ ?_
      refine cl_X2_104 dX2_readsCalendar_37 rfl ⟨(Nat.le_of_ble_eq_true rfl), (Nat.le_of_ble_eq_true rfl)⟩ rfl ?_
      refine ct_X2_in (fun c37 => ?_) (fun c37 => ?_)
      · refine Gx_if_eq (tgt := 87) dX2_readsCalendar_40 (by decide) (fun hz => absurd hz (by decide)) (fun _ => ?_)
        refine Gx_aload_n (i := 0) dX2_readsCalendar_43 rfl rfl ?_
        refine gf_X2_38_22 dX2_readsCalendar_44 rfl rfl ?_
        refine Gx_aload_n (i := 0) dX2_readsCalendar_47 rfl rfl ?_
        refine gf_X2_164_22 dX2_readsCalendar_48 rfl rfl ?_
        refine Gx_aload_n (i := 0) dX2_readsCalendar_51 rfl rfl ?_
        refine Gx_iload_n (i := 1) dX2_readsCalendar_52 rfl rfl ?_
        refine Gx_aload_n (i := 0) dX2_readsCalendar_53 rfl rfl ?_
        refine gf_X2_132_22 dX2_readsCalendar_54 rfl rfl ?_
        refine cl_X2_135 dX2_readsCalendar_57 rfl rfl ⟨(Nat.le_of_ble_eq_true rfl), (Nat.le_of_ble_eq_true rfl)⟩ rfl ?_
        refine ct_X2_byteAt (by omega) (by omega) (by omega) ?_
        refine Gx_bipush dX2_readsCalendar_60 ⟨by decide, by decide⟩ ?_
        refine Gx_isub dX2_readsCalendar_62 ?_
        refine Gx_iastore dX2_readsCalendar_63 rfl (by omega) ?_
        refine Gx_aload_n (i := 0) dX2_readsCalendar_64 rfl rfl ?_
        refine Gx_dup (Nat.ne_of_beq_eq_false rfl) dX2_readsCalendar_65 ?_
        refine gf_X2_164_22 dX2_readsCalendar_66 rfl rfl ?_
        refine Gx_iconst ⟨by decide, by decide⟩ dX2_readsCalendar_69 ?_
        refine Gx_iadd dX2_readsCalendar_70 ?_
        refine pf_X2_164_22 dX2_readsCalendar_71 rfl rfl ?_
        refine Gx_aload_n (i := 0) dX2_readsCalendar_74 rfl rfl ?_
        refine Gx_dup (Nat.ne_of_beq_eq_false rfl) dX2_readsCalendar_75 ?_
        refine gf_X2_132_22 dX2_readsCalendar_76 rfl rfl ?_
        refine Gx_iconst ⟨by decide, by decide⟩ dX2_readsCalendar_79 ?_
        refine Gx_iadd dX2_readsCalendar_80 ?_
        refine pf_X2_132_22 dX2_readsCalendar_81 rfl rfl ?_
        refine Gx_goto (tgt := 15) dX2_readsCalendar_84 (by decide) ?_
        have hd : b (q + i) = sByte v r (v 38 10) := by rw [← h4, h3]; rfl
        have hz : 48 ≤ b (q + i) ∧ b (q + i) ≤ 50 := by rw [hd]; exact c37
        have ec : pCnt b (j + 1) (q + i) = 1 + pCnt b j (q + (i + 1)) := by
          show (if _ then _ else _) = _
          rw [if_pos hz, show q + i + 1 = q + (i + 1) by omega]
        refine Gx_name (fun vN eN => ?_)
        have hFN : ∀ a l, ¬ ((a = 38 ∧ (l = 10 ∨ l = 17)) ∨ (a = 48 ∧ l = i)) → vN a l = v a l := by
          intro a l hn
          rw [eN]
          simp (disch := omega) only [gUp_ne2, gUp_eq2]
        have h17 : vN 38 17 = i + 1 := by
          rw [eN]
          simp (disch := omega) only [gUp_ne2, gUp_eq2]
          rw [h2]
          exact w32_id (by omega) (by omega)
        have h10 : vN 38 10 = q + (i + 1) := by
          rw [eN]
          simp (disch := omega) only [gUp_ne2, gUp_eq2]
          rw [h3, w32_id (by omega) (by omega)]
          omega
        have h48 : vN 48 i = b (q + i) - 48 := by
          rw [eN]
          simp (disch := omega) only [gUp_ne2, gUp_eq2]
          rw [← hd]
          exact w32_id (by omega) (by omega)
        refine ih (i + 1) vN (by omega) (by omega) h17 h10 (mB_of (fun l => hFN 43 l (by omega)) (fun l => hFN 44 l (by omega)) h4) (by rw [hFN 43 r (by omega)]; exact h5) ?_
        intro v1 g1 g2 g3 g4
        refine k v1 (fun a l hn => ?_) (by omega) (by omega) (fun l h6 h7 => ?_)
        · rw [g1 a l (by omega), hFN a l (by omega)]
        · by_cases hl : l = i
          · rw [g1 48 l (by omega), hl]
            exact h48
          · exact g4 l (by omega) (by omega)
      · refine Gx_if_eq (tgt := 87) dX2_readsCalendar_40 (by decide) (fun _ => ?_) (fun hz => absurd hz (by decide))
        first
          | (exfalso; omega)
          | (have hd : b (q + i) = sByte v r (v 38 10) := by rw [← h4, h3]; rfl
             have ec : pCnt b (j + 1) (q + i) = 0 := by
               show (if _ then _ else _) = _
               rw [if_neg (by rw [hd]; exact c37)]
             rw [ec] at k
             exact k v (fun a l hn => rfl) (by omega) (by omega) (fun l h5 h6 => by omega))
set_option maxHeartbeats 2000000 in
theorem ct_X2_readsCalendar {r q0 : Int} {b : pB} (hr : 0 ≤ r ∧ r ≤ 3) (hs : v 43 r ≤ 80) (hb : mB v r = b) (hq : v 38 10 = q0) (hp : 0 ≤ q0 ∧ q0 ≤ 400) (k1 : ∀ v1, 0 < pCnt b 8 (q0 + 1) → (∀ a j, ¬ ((a = 38 ∧ (j = 10 ∨ j = 17)) ∨ (a = 48 ∧ 0 ≤ j ∧ j ≤ 7)) → v1 a j = v a j) → v1 38 10 = q0 + 1 + pCnt b 8 (q0 + 1) → v1 38 17 = pCnt b 8 (q0 + 1) → (∀ l, 0 ≤ l → l < pCnt b 8 (q0 + 1) → v1 48 l = b (q0 + 1 + l) - 48) → Q (0, 1) v1 (gHd K) t) (k0 : ∀ v1, pCnt b 8 (q0 + 1) = 0 → (∀ a j, ¬ ((a = 38 ∧ (j = 10 ∨ j = 17)) ∨ (a = 48 ∧ 0 ≤ j ∧ j ≤ 7)) → v1 a j = v a j) → v1 38 10 = q0 + 1 → Q (0, 0) v1 (gHd K) t) : Ctr Γ mX2_readsCalendar [(2, 38), (0, r)] v (gHd K) t Q := by
  refine Ctr.ofG (ls := [(2, 38), (0, r)]) rfl rfl rfl rfl rfl ?_
  refine Gx_aload_n (i := 0) dX2_readsCalendar_0 rfl rfl ?_
  refine Gx_dup (Nat.ne_of_beq_eq_false rfl) dX2_readsCalendar_1 ?_
  refine gf_X2_132_22 dX2_readsCalendar_2 rfl rfl ?_
  refine Gx_iconst ⟨by decide, by decide⟩ dX2_readsCalendar_5 ?_
  refine Gx_iadd dX2_readsCalendar_6 ?_
  try simp (disch := omega) only [w32_id]
  refine pf_X2_132_22 dX2_readsCalendar_7 rfl rfl ?_
  refine Gx_aload_n (i := 0) dX2_readsCalendar_10 rfl rfl ?_
  refine Gx_iconst ⟨by decide, by decide⟩ dX2_readsCalendar_11 ?_
  refine pf_X2_164_22 dX2_readsCalendar_12 rfl rfl ?_
  refine Gx_name (fun vS eS => ?_)
  have hFS : ∀ a j, ¬ (a = 38 ∧ (j = 10 ∨ j = 17)) → vS a j = v a j := by
    intro a j hn
    rw [eS]
    simp (disch := omega) only [gUp_ne2, gUp_eq2]
  have hq1 : vS 38 10 = q0 + 1 + 0 := by
    rw [eS]
    simp (disch := omega) only [gUp_ne2, gUp_eq2, hq, Int.add_zero]
  have h17 : vS 38 17 = 0 := by
    rw [eS]
    simp (disch := omega) only [gUp_ne2, gUp_eq2]
  have hm := pCnt_le b 8 (q0 + 1)
  refine lp_X2_readsCalendar (q := q0 + 1) hr (by omega) 8 0 vS (by omega) (by omega) h17 hq1 (mB_of (fun l => hFS 43 l (by omega)) (fun l => hFS 44 l (by omega)) hb) (by rw [hFS 43 r (by omega)]; exact hs) ?_
  intro v1 g1 g2 g3 g4
  rw [Int.add_zero] at g2 g3 g4
  rw [Int.zero_add] at g3 g4
  have gF : ∀ a j, ¬ ((a = 38 ∧ (j = 10 ∨ j = 17)) ∨ (a = 48 ∧ 0 ≤ j ∧ j ≤ 7)) → v1 a j = v a j := fun a j hn => by rw [g1 a j (by omega), hFS a j (by omega)]
  refine Gx_aload_n (i := 0) dX2_readsCalendar_87 rfl rfl ?_
  refine gf_X2_164_22 dX2_readsCalendar_88 rfl rfl ?_
  refine Gx_if_le (tgt := 98) dX2_readsCalendar_91 (by decide) (fun c91 => ?_) (fun c91 => ?_)
  · refine Gx_iconst ⟨by decide, by decide⟩ dX2_readsCalendar_98 ?_
    refine Gx_ireturn dX2_readsCalendar_99 (Or.inl rfl) ?_
    first | exact k1 v1 (by omega) gF g2 g3 g4 | exact k0 v1 (by omega) gF (by omega)
  · refine Gx_iconst ⟨by decide, by decide⟩ dX2_readsCalendar_94 ?_
    refine Gx_goto (tgt := 99) dX2_readsCalendar_95 (by decide) ?_
    refine Gx_ireturn dX2_readsCalendar_99 (Or.inr rfl) ?_
    first | exact k1 v1 (by omega) gF g2 g3 g4 | exact k0 v1 (by omega) gF (by omega)
theorem ct_X2_kindOf {c : Int} (k : Q (0, if c = 84 then 1 else if c = 86 then 2 else if c = 87 then 3 else if c = 78 then 4 else if c = 79 then 5 else 0) v (gHd K) t) : Ctr Γ mX2_kindOf [(0, c)] v (gHd K) t Q := by
  refine Ctr.ofG (ls := [(0, c)]) rfl rfl rfl rfl rfl ?_
  refine Gx_iload_n (i := 0) dX2_kindOf_0 rfl rfl ?_
  refine Gx_bipush dX2_kindOf_1 ⟨by decide, by decide⟩ ?_
  refine Gx_icmp_ne (tgt := 10) dX2_kindOf_3 (by decide) (fun c3 => ?_) (fun c3 => ?_)
  · refine Gx_iload_n (i := 0) dX2_kindOf_10 rfl rfl ?_
    refine Gx_bipush dX2_kindOf_11 ⟨by decide, by decide⟩ ?_
    refine Gx_icmp_ne (tgt := 20) dX2_kindOf_13 (by decide) (fun c13 => ?_) (fun c13 => ?_)
    · refine Gx_iload_n (i := 0) dX2_kindOf_20 rfl rfl ?_
      refine Gx_bipush dX2_kindOf_21 ⟨by decide, by decide⟩ ?_
      refine Gx_icmp_ne (tgt := 30) dX2_kindOf_23 (by decide) (fun c23 => ?_) (fun c23 => ?_)
      · refine Gx_iload_n (i := 0) dX2_kindOf_30 rfl rfl ?_
        refine Gx_bipush dX2_kindOf_31 ⟨by decide, by decide⟩ ?_
        refine Gx_icmp_ne (tgt := 40) dX2_kindOf_33 (by decide) (fun c33 => ?_) (fun c33 => ?_)
        · refine Gx_iload_n (i := 0) dX2_kindOf_40 rfl rfl ?_
          refine Gx_bipush dX2_kindOf_41 ⟨by decide, by decide⟩ ?_
          refine Gx_icmp_ne (tgt := 50) dX2_kindOf_43 (by decide) (fun c43 => ?_) (fun c43 => ?_)
          · refine Gx_iconst ⟨by decide, by decide⟩ dX2_kindOf_50 ?_
            refine Gx_ireturn dX2_kindOf_51 trivial ?_
            (repeat' split at k) <;> first | exact k | (exfalso; omega)
          · refine Gx_iconst ⟨by decide, by decide⟩ dX2_kindOf_46 ?_
            refine Gx_goto (tgt := 51) dX2_kindOf_47 (by decide) ?_
            refine Gx_ireturn dX2_kindOf_51 trivial ?_
            (repeat' split at k) <;> first | exact k | (exfalso; omega)
        · refine Gx_iconst ⟨by decide, by decide⟩ dX2_kindOf_36 ?_
          refine Gx_goto (tgt := 51) dX2_kindOf_37 (by decide) ?_
          refine Gx_ireturn dX2_kindOf_51 trivial ?_
          (repeat' split at k) <;> first | exact k | (exfalso; omega)
      · refine Gx_iconst ⟨by decide, by decide⟩ dX2_kindOf_26 ?_
        refine Gx_goto (tgt := 51) dX2_kindOf_27 (by decide) ?_
        refine Gx_ireturn dX2_kindOf_51 trivial ?_
        (repeat' split at k) <;> first | exact k | (exfalso; omega)
    · refine Gx_iconst ⟨by decide, by decide⟩ dX2_kindOf_16 ?_
      refine Gx_goto (tgt := 51) dX2_kindOf_17 (by decide) ?_
      refine Gx_ireturn dX2_kindOf_51 trivial ?_
      (repeat' split at k) <;> first | exact k | (exfalso; omega)
  · refine Gx_iconst ⟨by decide, by decide⟩ dX2_kindOf_6 ?_
    refine Gx_goto (tgt := 51) dX2_kindOf_7 (by decide) ?_
    refine Gx_ireturn dX2_kindOf_51 trivial ?_
    (repeat' split at k) <;> first | exact k | (exfalso; omega)
end
