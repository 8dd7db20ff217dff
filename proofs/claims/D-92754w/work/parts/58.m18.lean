/-! AcornYearsModel: layers, gains -/
section
variable {Γ : gC} {v : gM} {K : gH} {t : Nat} {Q : gQ}
def pLay (f : Int → Int) : Nat → Bool
  | 0 => true
  | n + 1 => pLay f n && decide (0 ≤ f n ∧ f n ≤ 1)
theorem pLay_s {f : Int → Int} {i : Int} (h : 0 ≤ i) : pLay f (i + 1).toNat = (pLay f i.toNat && decide (0 ≤ f i ∧ f i ≤ 1)) := by
  rw [show (i + 1).toNat = i.toNat + 1 by omega]
  show (pLay f i.toNat && decide (0 ≤ f (i.toNat : Int) ∧ f (i.toNat : Int) ≤ 1)) = _
  rw [show ((i.toNat : Nat) : Int) = i by omega]
def sNL (v : gM) (r m : Int) : Int × gM := if ¬ (0 ≤ r ∧ r ≤ 5) then (-1, v) else if v 40 r < 0 then (-3, sMeet v 1) else if ¬ (1 ≤ v 40 r ∧ v 40 r ≤ m) then (-3, sMeet v 5) else if pLay (fun k => v 41 (80 * r + k)) (v 40 r).toNat = true then (0, v) else (-3, sMeet v 3)
/-- layers that a tree of gains g, above b, cost c would have laid: as far as i -/
def gFt (f : Int → Int) (g b c : Int) : Nat → Bool × Int
  | 0 => (true, 0)
  | i + 1 => if (gFt f g b c i).1 = true then (decide (b < min 60 ((gFt f g b c i).2 + g) ↔ f i = 1), min 60 ((gFt f g b c i).2 + g) - (if b < min 60 ((gFt f g b c i).2 + g) then c else 0)) else gFt f g b c i
theorem gFt_s {f : Int → Int} {g b c i : Int} (h : 0 ≤ i) : gFt f g b c (i + 1).toNat = if (gFt f g b c i.toNat).1 = true then (decide (b < min 60 ((gFt f g b c i.toNat).2 + g) ↔ f i = 1), min 60 ((gFt f g b c i.toNat).2 + g) - (if b < min 60 ((gFt f g b c i.toNat).2 + g) then c else 0)) else gFt f g b c i.toNat := by
  rw [show (i + 1).toNat = i.toNat + 1 by omega]
  show (if (gFt f g b c i.toNat).1 = true then (decide (b < min 60 ((gFt f g b c i.toNat).2 + g) ↔ f (i.toNat : Int) = 1), _) else _) = _
  rw [show ((i.toNat : Nat) : Int) = i by omega]
theorem gFt_dead {f : Int → Int} {g b c : Int} {i : Nat} (h : (gFt f g b c i).1 = false) : ∀ j, i ≤ j → (gFt f g b c j).1 = false := by
  intro j
  induction j with
  | zero => intro hj; rw [show i = 0 by omega] at h; exact h
  | succ j ih =>
    intro hj
    by_cases e : i = j + 1
    · rw [← e]; exact h
    · have := ih (by omega)
      unfold gFt
      rw [if_neg (by rw [this]; decide)]
      exact this
theorem gFt_le {f : Int → Int} {g b c : Int} (hg : 0 ≤ g ∧ g ≤ 9) (hc : 1 ≤ c ∧ c ≤ b + 1) : ∀ i, 0 ≤ (gFt f g b c i).2 ∧ (gFt f g b c i).2 ≤ 60
  | 0 => by unfold gFt; simp
  | i + 1 => by
    have := gFt_le (f := f) hg hc i
    unfold gFt
    split
    · dsimp only
      split <;> omega
    · exact this

set_option maxHeartbeats 1000000 in
theorem lp_X2_needLayers {r m n : Int} {bc bs : Nat} (hr : 0 ≤ r ∧ r ≤ 5) (hn : v 40 r = n) (hn8 : n ≤ 80) (k1 : pLay (fun k => v 41 (80 * r + k)) n.toNat = true → Q (0, 0) v (gHd K) t) (k0 : pLay (fun k => v 41 (80 * r + k)) n.toNat = false → Q (0, -3) (sMeet v 3) (gHd K) t) : ∀ (j : Nat) (i gd : Int), 0 ≤ i → i + j = n → (gd = 1 ∧ pLay (fun k => v 41 (80 * r + k)) i.toNat = true) ∨ (gd = 0 ∧ pLay (fun k => v 41 (80 * r + k)) i.toNat = false) → Gx Γ mX2_needLayers 49 [(2, 38), (0, r), (0, m), (0, gd), (0, i)] [] v (gHd K) t bc bs Q := by
  intro j
  induction j with
  | zero =>
    intro i gd h0 h1 hg
    refine Gx_iload dX2_needLayers_49 rfl ?_
    refine Gx_aload_n (i := 0) dX2_needLayers_51 rfl rfl ?_
    refine gf_X2_13_22 dX2_needLayers_52 rfl rfl ?_
    refine Gx_iload_n (i := 1) dX2_needLayers_55 rfl rfl ?_
    refine Gx_iaload dX2_needLayers_56 rfl (by first | omega | (simp (disch := omega) only [w32_id]; omega)) ?_
    refine Gx_icmp_ge (tgt := 91) dX2_needLayers_57 (by decide) (fun c57 => ?_) (fun c57 => ?_)
    · refine Gx_iload_n (i := 3) dX2_needLayers_91 rfl rfl ?_
      refine Gx_if_eq (tgt := 99) dX2_needLayers_92 (by decide) (fun c92 => ?_) (fun c92 => ?_)
      · refine Gx_aload_n (i := 0) dX2_needLayers_99 rfl rfl ?_
        refine Gx_iconst ⟨by decide, by decide⟩ dX2_needLayers_100 ?_
        refine cl_X2_118 dX2_needLayers_101 rfl rfl ⟨(Nat.le_of_ble_eq_true rfl), (Nat.le_of_ble_eq_true rfl)⟩ rfl ?_
        refine ct_X2_meets (by omega) ?_
        refine Gx_ireturn dX2_needLayers_104 trivial ?_
        have e0 : i = n := by omega
        rw [e0] at hg
        rcases hg with ⟨q1, q2⟩ | ⟨q1, q2⟩
        · first | exact k1 q2 | (exfalso; omega)
        · first | exact k0 q2 | (exfalso; omega)
      · refine Gx_iconst ⟨by decide, by decide⟩ dX2_needLayers_95 ?_
        refine Gx_goto (tgt := 104) dX2_needLayers_96 (by decide) ?_
        refine Gx_ireturn dX2_needLayers_104 trivial ?_
        have e0 : i = n := by omega
        rw [e0] at hg
        rcases hg with ⟨q1, q2⟩ | ⟨q1, q2⟩
        · first | exact k1 q2 | (exfalso; omega)
        · first | exact k0 q2 | (exfalso; omega)
    · exfalso
      omega
  | succ j ih =>
    intro i gd h0 h1 hg
    refine Gx_iload dX2_needLayers_49 rfl ?_
    refine Gx_aload_n (i := 0) dX2_needLayers_51 rfl rfl ?_
    refine gf_X2_13_22 dX2_needLayers_52 rfl rfl ?_
    refine Gx_iload_n (i := 1) dX2_needLayers_55 rfl rfl ?_
    refine Gx_iaload dX2_needLayers_56 rfl (by first | omega | (simp (disch := omega) only [w32_id]; omega)) ?_
    refine Gx_icmp_ge (tgt := 91) dX2_needLayers_57 (by decide) (fun c57 => ?_) (fun c57 => ?_)
    · refine Gx_iload_n (i := 3) dX2_needLayers_91 rfl rfl ?_
      refine Gx_if_eq (tgt := 99) dX2_needLayers_92 (by decide) (fun c92 => ?_) (fun c92 => ?_)
      · refine Gx_aload_n (i := 0) dX2_needLayers_99 rfl rfl ?_
        refine Gx_iconst ⟨by decide, by decide⟩ dX2_needLayers_100 ?_
        refine cl_X2_118 dX2_needLayers_101 rfl rfl ⟨(Nat.le_of_ble_eq_true rfl), (Nat.le_of_ble_eq_true rfl)⟩ rfl ?_
        refine ct_X2_meets (by omega) ?_
        refine Gx_ireturn dX2_needLayers_104 trivial ?_
        exfalso
        omega
      · refine Gx_iconst ⟨by decide, by decide⟩ dX2_needLayers_95 ?_
        refine Gx_goto (tgt := 104) dX2_needLayers_96 (by decide) ?_
        refine Gx_ireturn dX2_needLayers_104 trivial ?_
        exfalso
        omega
    · refine Gx_iload_n (i := 3) dX2_needLayers_60 rfl rfl ?_
      refine Gx_if_eq (tgt := 83) dX2_needLayers_61 (by decide) (fun c61 => ?_) (fun c61 => ?_)
      · refine Gx_iconst ⟨by decide, by decide⟩ dX2_needLayers_83 ?_
        refine Gx_istore_n_3 dX2_needLayers_84 (Nat.le_of_ble_eq_true rfl) (Nat.ne_of_beq_eq_false rfl) ?_
        refine Gx_iinc_4 dX2_needLayers_85 (Nat.le_of_ble_eq_true rfl) (Nat.ne_of_beq_eq_false rfl) ?_
        try simp (disch := omega) only [w32_id]
        refine Gx_goto (tgt := 49) dX2_needLayers_88 (by decide) ?_
        have hx := pLay_s (f := fun k => v 41 (80 * r + k)) h0
        refine ih (i + 1) _ (by omega) (by omega) ?_
        rw [hx]
        rcases hg with ⟨q1, q2⟩ | ⟨q1, q2⟩
        · rw [q2, Bool.true_and]
          first
            | exact Or.inl ⟨rfl, decide_eq_true (by omega)⟩
            | exact Or.inr ⟨rfl, decide_eq_false (by omega)⟩
            | (exfalso; omega)
        · rw [q2, Bool.false_and]
          first
            | exact Or.inr ⟨rfl, rfl⟩
            | (exfalso; omega)
      · refine Gx_aload_n (i := 0) dX2_needLayers_64 rfl rfl ?_
        refine Gx_iload_n (i := 1) dX2_needLayers_65 rfl rfl ?_
        refine Gx_iload dX2_needLayers_66 rfl ?_
        refine cl_X2_122 dX2_needLayers_68 rfl rfl ⟨(Nat.le_of_ble_eq_true rfl), (Nat.le_of_ble_eq_true rfl)⟩ rfl ?_
        refine ct_X2_rowAt (by omega) (by omega) ?_
        refine Gx_iconst ⟨by decide, by decide⟩ dX2_needLayers_71 ?_
        refine Gx_iconst ⟨by decide, by decide⟩ dX2_needLayers_72 ?_
        refine cl_X2_104 dX2_needLayers_73 rfl ⟨(Nat.le_of_ble_eq_true rfl), (Nat.le_of_ble_eq_true rfl)⟩ rfl ?_
        refine ct_X2_in (fun c73 => ?_) (fun c73 => ?_)
        · refine Gx_if_eq (tgt := 83) dX2_needLayers_76 (by decide) (fun hz => absurd hz (by decide)) (fun _ => ?_)
          refine Gx_iconst ⟨by decide, by decide⟩ dX2_needLayers_79 ?_
          refine Gx_goto (tgt := 84) dX2_needLayers_80 (by decide) ?_
          refine Gx_istore_n_3 dX2_needLayers_84 (Nat.le_of_ble_eq_true rfl) (Nat.ne_of_beq_eq_false rfl) ?_
          refine Gx_iinc_4 dX2_needLayers_85 (Nat.le_of_ble_eq_true rfl) (Nat.ne_of_beq_eq_false rfl) ?_
          try simp (disch := omega) only [w32_id]
          refine Gx_goto (tgt := 49) dX2_needLayers_88 (by decide) ?_
          have hx := pLay_s (f := fun k => v 41 (80 * r + k)) h0
          refine ih (i + 1) _ (by omega) (by omega) ?_
          rw [hx]
          rcases hg with ⟨q1, q2⟩ | ⟨q1, q2⟩
          · rw [q2, Bool.true_and]
            first
              | exact Or.inl ⟨rfl, decide_eq_true (by omega)⟩
              | exact Or.inr ⟨rfl, decide_eq_false (by omega)⟩
              | (exfalso; omega)
          · rw [q2, Bool.false_and]
            first
              | exact Or.inr ⟨rfl, rfl⟩
              | (exfalso; omega)
        · refine Gx_if_eq (tgt := 83) dX2_needLayers_76 (by decide) (fun _ => ?_) (fun hz => absurd hz (by decide))
          refine Gx_iconst ⟨by decide, by decide⟩ dX2_needLayers_83 ?_
          refine Gx_istore_n_3 dX2_needLayers_84 (Nat.le_of_ble_eq_true rfl) (Nat.ne_of_beq_eq_false rfl) ?_
          refine Gx_iinc_4 dX2_needLayers_85 (Nat.le_of_ble_eq_true rfl) (Nat.ne_of_beq_eq_false rfl) ?_
          try simp (disch := omega) only [w32_id]
          refine Gx_goto (tgt := 49) dX2_needLayers_88 (by decide) ?_
          have hx := pLay_s (f := fun k => v 41 (80 * r + k)) h0
          refine ih (i + 1) _ (by omega) (by omega) ?_
          rw [hx]
          rcases hg with ⟨q1, q2⟩ | ⟨q1, q2⟩
          · rw [q2, Bool.true_and]
            first
              | exact Or.inl ⟨rfl, decide_eq_true (by omega)⟩
              | exact Or.inr ⟨rfl, decide_eq_false (by omega)⟩
              | (exfalso; omega)
          · rw [q2, Bool.false_and]
            first
              | exact Or.inr ⟨rfl, rfl⟩
              | (exfalso; omega)
set_option maxHeartbeats 1000000 in
theorem ct_X2_needLayers {r m : Int} (hS : oSz v) (k : Q (0, (sNL v r m).1) (sNL v r m).2 (gHd K) t) : Ctr Γ mX2_needLayers [(2, 38), (0, r), (0, m)] v (gHd K) t Q := by
  refine Ctr.ofG (ls := [(2, 38), (0, r), (0, m), (9, 0), (9, 0)]) rfl rfl rfl rfl rfl ?_
  refine Gx_iload_n (i := 1) dX2_needLayers_0 rfl rfl ?_
  refine cl_X2_114 dX2_needLayers_1 rfl ⟨(Nat.le_of_ble_eq_true rfl), (Nat.le_of_ble_eq_true rfl)⟩ rfl ?_
  refine ct_X2_isRow (fun c1 => ?_) (fun c1 => ?_)
  · refine Gx_if_ne (tgt := 9) dX2_needLayers_4 (by decide) (fun _ => ?_) (fun hz => absurd hz (by decide))
    have hs := hS r (by omega) (by omega)
    refine Gx_aload_n (i := 0) dX2_needLayers_9 rfl rfl ?_
    refine gf_X2_13_22 dX2_needLayers_10 rfl rfl ?_
    refine Gx_iload_n (i := 1) dX2_needLayers_13 rfl rfl ?_
    refine Gx_iaload dX2_needLayers_14 rfl (by first | omega | (simp (disch := omega) only [w32_id]; omega)) ?_
    refine Gx_if_ge (tgt := 24) dX2_needLayers_15 (by decide) (fun c15 => ?_) (fun c15 => ?_)
    · refine Gx_aload_n (i := 0) dX2_needLayers_24 rfl rfl ?_
      refine gf_X2_13_22 dX2_needLayers_25 rfl rfl ?_
      refine Gx_iload_n (i := 1) dX2_needLayers_28 rfl rfl ?_
      refine Gx_iaload dX2_needLayers_29 rfl (by first | omega | (simp (disch := omega) only [w32_id]; omega)) ?_
      refine Gx_iconst ⟨by decide, by decide⟩ dX2_needLayers_30 ?_
      refine Gx_iload_n (i := 2) dX2_needLayers_31 rfl rfl ?_
      refine cl_X2_104 dX2_needLayers_32 rfl ⟨(Nat.le_of_ble_eq_true rfl), (Nat.le_of_ble_eq_true rfl)⟩ rfl ?_
      refine ct_X2_in (fun c32 => ?_) (fun c32 => ?_)
      · refine Gx_if_ne (tgt := 44) dX2_needLayers_35 (by decide) (fun _ => ?_) (fun hz => absurd hz (by decide))
        refine Gx_iconst ⟨by decide, by decide⟩ dX2_needLayers_44 ?_
        refine Gx_istore_n_3 dX2_needLayers_45 (Nat.le_of_ble_eq_true rfl) (Nat.ne_of_beq_eq_false rfl) ?_
        refine Gx_iconst ⟨by decide, by decide⟩ dX2_needLayers_46 ?_
        refine Gx_istore_4 dX2_needLayers_47 (Nat.le_of_ble_eq_true rfl) (Nat.ne_of_beq_eq_false rfl) ?_
        refine lp_X2_needLayers (n := v 40 r) (by omega) rfl (by omega) (fun h => ?_) (fun h => ?_) (v 40 r).toNat 0 1 (by omega) (by omega) (Or.inl ⟨rfl, rfl⟩)
        · unfold sNL at k
          rw [if_neg (by omega), if_neg (by omega), if_neg (by omega), if_pos h] at k
          exact k
        · unfold sNL at k
          rw [if_neg (by omega), if_neg (by omega), if_neg (by omega), if_neg (by rw [h]; decide)] at k
          exact k
      · refine Gx_if_ne (tgt := 44) dX2_needLayers_35 (by decide) (fun hz => absurd hz (by decide)) (fun _ => ?_)
        refine Gx_aload_n (i := 0) dX2_needLayers_38 rfl rfl ?_
        refine Gx_iconst ⟨by decide, by decide⟩ dX2_needLayers_39 ?_
        refine cl_X2_118 dX2_needLayers_40 rfl rfl ⟨(Nat.le_of_ble_eq_true rfl), (Nat.le_of_ble_eq_true rfl)⟩ rfl ?_
        refine ct_X2_meets (by omega) ?_
        refine Gx_ireturn dX2_needLayers_43 trivial ?_
        unfold sNL at k
        (repeat' split at k) <;> first | exact k | (exfalso; omega)
    · refine Gx_aload_n (i := 0) dX2_needLayers_18 rfl rfl ?_
      refine Gx_iconst ⟨by decide, by decide⟩ dX2_needLayers_19 ?_
      refine cl_X2_118 dX2_needLayers_20 rfl rfl ⟨(Nat.le_of_ble_eq_true rfl), (Nat.le_of_ble_eq_true rfl)⟩ rfl ?_
      refine ct_X2_meets (by omega) ?_
      refine Gx_ireturn dX2_needLayers_23 trivial ?_
      unfold sNL at k
      (repeat' split at k) <;> first | exact k | (exfalso; omega)
  · refine Gx_if_ne (tgt := 9) dX2_needLayers_4 (by decide) (fun hz => absurd hz (by decide)) (fun _ => ?_)
    refine Gx_iconst ⟨by decide, by decide⟩ dX2_needLayers_7 ?_
    refine Gx_ireturn dX2_needLayers_8 trivial ?_
    unfold sNL at k
    (repeat' split at k) <;> first | exact k | (exfalso; omega)
theorem ct_X2_gainOf {i : Int} (hi : 0 ≤ i ∧ i < 24) (k : Q (0, if v 38 38 = 0 then 0 else w32 ((w32 (v 38 39 * v 61 i)).tdiv (v 38 38))) v (gHd K) t) : Ctr Γ mX2_gainOf [(2, 38), (0, i)] v (gHd K) t Q := by
  refine Ctr.ofG (ls := [(2, 38), (0, i)]) rfl rfl rfl rfl rfl ?_
  refine Gx_aload_n (i := 0) dX2_gainOf_0 rfl rfl ?_
  refine gf_X2_251_22 dX2_gainOf_1 rfl rfl ?_
  refine Gx_if_ne (tgt := 11) dX2_gainOf_4 (by decide) (fun c4 => ?_) (fun c4 => ?_)
  · refine Gx_aload_n (i := 0) dX2_gainOf_11 rfl rfl ?_
    refine gf_X2_266_22 dX2_gainOf_12 rfl rfl ?_
    refine Gx_aload_n (i := 0) dX2_gainOf_15 rfl rfl ?_
    refine gf_X2_77_22 dX2_gainOf_16 rfl rfl ?_
    refine Gx_iload_n (i := 1) dX2_gainOf_19 rfl rfl ?_
    refine Gx_iaload dX2_gainOf_20 rfl (by first | omega | (simp (disch := omega) only [w32_id]; omega)) ?_
    refine Gx_imul dX2_gainOf_21 ?_
    refine Gx_aload_n (i := 0) dX2_gainOf_22 rfl rfl ?_
    refine gf_X2_251_22 dX2_gainOf_23 rfl rfl ?_
    refine Gx_idiv dX2_gainOf_26 (by first | omega | (simp (disch := omega) only [w32_id]; omega)) ?_
    refine Gx_ireturn dX2_gainOf_27 trivial ?_
    split at k <;> first | exact k | (exfalso; omega)
  · refine Gx_iconst ⟨by decide, by decide⟩ dX2_gainOf_7 ?_
    refine Gx_goto (tgt := 27) dX2_gainOf_8 (by decide) ?_
    refine Gx_ireturn dX2_gainOf_27 trivial ?_
    split at k <;> first | exact k | (exfalso; omega)
theorem ct_X2_isLess {a b c d : Int} (k : Q (0, if w64 (a * d) < w64 (c * b) then 1 else 0) v (gHd K) t) : Ctr Γ mX2_isLess [(1, a), (1, b), (1, c), (1, d)] v (gHd K) t Q := by
  refine Ctr.ofG (ls := [(1, a), (9, 0), (1, b), (9, 0), (1, c), (9, 0), (1, d), (9, 0)]) rfl rfl rfl rfl rfl ?_
  refine Gx_lload_n (i := 0) dX2_isLess_0 rfl rfl ?_
  refine Gx_lload dX2_isLess_1 rfl ?_
  refine Gx_lmul dX2_isLess_3 ?_
  refine Gx_lload dX2_isLess_4 rfl ?_
  refine Gx_lload_n (i := 2) dX2_isLess_6 rfl rfl ?_
  refine Gx_lmul dX2_isLess_7 ?_
  refine Gx_lcmpif_ge (tgt := 16) dX2_isLess_8 dX2_isLess_9 (by decide) (fun c8 => ?_) (fun c8 => ?_)
  · refine Gx_iconst ⟨by decide, by decide⟩ dX2_isLess_16 ?_
    refine Gx_ireturn dX2_isLess_17 (Or.inl rfl) ?_
    split at k <;> first | exact k | (exfalso; omega)
  · refine Gx_iconst ⟨by decide, by decide⟩ dX2_isLess_12 ?_
    refine Gx_goto (tgt := 17) dX2_isLess_13 (by decide) ?_
    refine Gx_ireturn dX2_isLess_17 (Or.inr rfl) ?_
    split at k <;> first | exact k | (exfalso; omega)
end
