/-! AcornYearsModel: fits, guess -/
section
variable {Γ : gC} {v : gM} {K : gH} {t : Nat} {Q : gQ}
abbrev mFt (v : gM) (r g b c : Int) (i : Nat) : Bool × Int := gFt (fun k => v 41 (80 * r + k)) g b c i
def mFits (v : gM) (r g b c : Int) : Bool := (mFt v r g b c (v 40 r).toNat).1
set_option maxHeartbeats 2000000 in
theorem lp_X2_fits {r g b c n : Int} {bc bs : Nat} (hr : 0 ≤ r ∧ r ≤ 5) (hn : v 40 r = n) (hn8 : n ≤ 80) (hg : 0 ≤ g ∧ g ≤ 9) (hb : 0 ≤ b ∧ b ≤ 60) (hc : 1 ≤ c ∧ c ≤ b + 1) (k1 : (mFt v r g b c n.toNat).1 = true → Q (0, 1) v (gHd K) t) (k0 : (mFt v r g b c n.toNat).1 = false → Q (0, 0) v (gHd K) t) : ∀ (j : Nat) (i s is : Int), 0 ≤ i → i + j = n → (is = 1 ∧ mFt v r g b c i.toNat = (true, s)) ∨ (is = 0 ∧ (mFt v r g b c i.toNat).1 = false) → Gx Γ mX2_fits 9 [(2, 38), (0, r), (0, g), (0, b), (0, c), (0, s), (0, is), (0, i)] [] v (gHd K) t bc bs Q := by
  intro j
  induction j with
  | zero =>
    intro i s is h0 h1 hq
    refine Gx_iload dX2_fits_9 rfl ?_
    refine Gx_aload_n (i := 0) dX2_fits_11 rfl rfl ?_
    refine gf_X2_13_22 dX2_fits_12 rfl rfl ?_
    refine Gx_iload_n (i := 1) dX2_fits_15 rfl rfl ?_
    refine Gx_iaload dX2_fits_16 rfl (by first | omega | (simp (disch := omega) only [w32_id]; omega)) ?_
    refine Gx_icmp_ge (tgt := 96) dX2_fits_17 (by decide) (fun c17 => ?_) (fun c17 => ?_)
    · refine Gx_iload dX2_fits_96 rfl ?_
      refine Gx_ireturn dX2_fits_98 (show is = 0 ∨ is = 1 by rcases hq with ⟨q1, q2⟩ | ⟨q1, q2⟩ <;> omega) ?_
      rcases hq with ⟨q1, q2⟩ | ⟨q1, q2⟩
      · subst q1
        first
          | (exfalso; omega)
          | (have e0 : i = n := by omega
             rw [e0] at q2
             exact k1 (by rw [q2]))
      · subst q1
        exact k0 (gFt_dead q2 n.toNat (by omega))
    · exfalso
      omega
  | succ j ih =>
    intro i s is h0 h1 hq
    refine Gx_iload dX2_fits_9 rfl ?_
    refine Gx_aload_n (i := 0) dX2_fits_11 rfl rfl ?_
    refine gf_X2_13_22 dX2_fits_12 rfl rfl ?_
    refine Gx_iload_n (i := 1) dX2_fits_15 rfl rfl ?_
    refine Gx_iaload dX2_fits_16 rfl (by first | omega | (simp (disch := omega) only [w32_id]; omega)) ?_
    refine Gx_icmp_ge (tgt := 96) dX2_fits_17 (by decide) (fun c17 => ?_) (fun c17 => ?_)
    · refine Gx_iload dX2_fits_96 rfl ?_
      refine Gx_ireturn dX2_fits_98 (show is = 0 ∨ is = 1 by rcases hq with ⟨q1, q2⟩ | ⟨q1, q2⟩ <;> omega) ?_
      first
        | (exfalso; omega)
        | (rcases hq with ⟨q1, q2⟩ | ⟨q1, q2⟩
           · subst q1
             first
               | (exfalso; omega)
               | (have e0 : i = n := by omega
                  rw [e0] at q2
                  exact k1 (by rw [q2]))
           · subst q1
             exact k0 (gFt_dead q2 n.toNat (by omega)))
    · refine Gx_iload dX2_fits_20 rfl ?_
      refine Gx_if_eq (tgt := 96) dX2_fits_22 (by decide) (fun c22 => ?_) (fun c22 => ?_)
      · refine Gx_iload dX2_fits_96 rfl ?_
        refine Gx_ireturn dX2_fits_98 (show is = 0 ∨ is = 1 by rcases hq with ⟨q1, q2⟩ | ⟨q1, q2⟩ <;> omega) ?_
        first
          | (exfalso; omega)
          | (rcases hq with ⟨q1, q2⟩ | ⟨q1, q2⟩
             · subst q1
               first
                 | (exfalso; omega)
                 | (have e0 : i = n := by omega
                    rw [e0] at q2
                    exact k1 (by rw [q2]))
             · subst q1
               exact k0 (gFt_dead q2 n.toNat (by omega)))
      · have q2 : mFt v r g b c i.toNat = (true, s) := by
          rcases hq with ⟨q1, q2⟩ | ⟨q1, q2⟩
          · exact q2
          · exfalso; omega
        have hsl := gFt_le (f := fun k => v 41 (80 * r + k)) hg hc i.toNat
        have hsl : 0 ≤ s ∧ s ≤ 60 := by
          have e9 : (gFt (fun k => v 41 (80 * r + k)) g b c i.toNat) = (true, s) := q2
          rw [e9] at hsl
          exact hsl
        refine Gx_bipush dX2_fits_25 ⟨by decide, by decide⟩ ?_
        refine Gx_iload dX2_fits_27 rfl ?_
        refine Gx_iload_n (i := 2) dX2_fits_29 rfl rfl ?_
        refine Gx_iadd dX2_fits_30 ?_
        try simp (disch := omega) only [w32_id]
        refine cl_X2_158 dX2_fits_31 rfl ⟨(Nat.le_of_ble_eq_true rfl), (Nat.le_of_ble_eq_true rfl)⟩ rfl ?_
        refine ct_X2_lesser ?_
        refine Gx_istore_5 dX2_fits_34 (Nat.le_of_ble_eq_true rfl) (Nat.ne_of_beq_eq_false rfl) ?_
        refine Gx_iload dX2_fits_36 rfl ?_
        refine Gx_iload_n (i := 3) dX2_fits_38 rfl rfl ?_
        refine Gx_icmp_le (tgt := 46) dX2_fits_39 (by decide) (fun c39 => ?_) (fun c39 => ?_)
        · refine Gx_iconst ⟨by decide, by decide⟩ dX2_fits_46 ?_
          refine Gx_aload_n (i := 0) dX2_fits_47 rfl rfl ?_
          refine Gx_iload_n (i := 1) dX2_fits_48 rfl rfl ?_
          refine Gx_iload dX2_fits_49 rfl ?_
          refine cl_X2_122 dX2_fits_51 rfl rfl ⟨(Nat.le_of_ble_eq_true rfl), (Nat.le_of_ble_eq_true rfl)⟩ rfl ?_
          refine ct_X2_rowAt (by omega) (by omega) ?_
          refine Gx_iconst ⟨by decide, by decide⟩ dX2_fits_54 ?_
          refine Gx_icmp_ne (tgt := 62) dX2_fits_55 (by decide) (fun c55 => ?_) (fun c55 => ?_)
          · refine Gx_iconst ⟨by decide, by decide⟩ dX2_fits_62 ?_
            refine Gx_icmp_ne (tgt := 70) dX2_fits_63 (by decide) (fun hz => absurd hz (by decide)) (fun _ => ?_)
            refine Gx_iconst ⟨by decide, by decide⟩ dX2_fits_66 ?_
            refine Gx_goto (tgt := 71) dX2_fits_67 (by decide) ?_
            refine Gx_istore_6 dX2_fits_71 (Nat.le_of_ble_eq_true rfl) (Nat.ne_of_beq_eq_false rfl) ?_
            refine Gx_iload dX2_fits_73 rfl ?_
            refine Gx_iload dX2_fits_75 rfl ?_
            refine Gx_iload_n (i := 3) dX2_fits_77 rfl rfl ?_
            refine Gx_icmp_le (tgt := 86) dX2_fits_78 (by decide) (fun c78 => ?_) (fun c78 => ?_)
            · refine Gx_iconst ⟨by decide, by decide⟩ dX2_fits_86 ?_
              refine Gx_isub dX2_fits_87 ?_
              try simp (disch := omega) only [w32_id]
              refine Gx_istore_5 dX2_fits_88 (Nat.le_of_ble_eq_true rfl) (Nat.ne_of_beq_eq_false rfl) ?_
              refine Gx_iinc_7 dX2_fits_90 (Nat.le_of_ble_eq_true rfl) (Nat.ne_of_beq_eq_false rfl) ?_
              try simp (disch := omega) only [w32_id]
              refine Gx_goto (tgt := 9) dX2_fits_93 (by decide) ?_
              have hx := gFt_s (f := fun k => v 41 (80 * r + k)) (g := g) (b := b) (c := c) h0
              have e9 : (gFt (fun k => v 41 (80 * r + k)) g b c i.toNat) = (true, s) := q2
              rw [e9, if_pos rfl] at hx
              dsimp only at hx
              refine ih (i + 1) _ _ (by omega) (by omega) ?_
              show (_ ∧ gFt (fun k => v 41 (80 * r + k)) g b c (i + 1).toNat = _) ∨ (_ ∧ (gFt (fun k => v 41 (80 * r + k)) g b c (i + 1).toNat).1 = _)
              rw [hx]
              first
                | (exfalso; omega)
                | (refine Or.inl ⟨rfl, ?_⟩
                   rw [decide_eq_true (by omega), if_pos (by omega)]
                   done)
                | (refine Or.inl ⟨rfl, ?_⟩
                   rw [decide_eq_true (by omega), if_neg (by omega)]
                   done)
                | exact Or.inr ⟨rfl, decide_eq_false (by omega)⟩
            · refine Gx_iload dX2_fits_81 rfl ?_
              refine Gx_goto (tgt := 87) dX2_fits_83 (by decide) ?_
              refine Gx_isub dX2_fits_87 ?_
              try simp (disch := omega) only [w32_id]
              refine Gx_istore_5 dX2_fits_88 (Nat.le_of_ble_eq_true rfl) (Nat.ne_of_beq_eq_false rfl) ?_
              refine Gx_iinc_7 dX2_fits_90 (Nat.le_of_ble_eq_true rfl) (Nat.ne_of_beq_eq_false rfl) ?_
              try simp (disch := omega) only [w32_id]
              refine Gx_goto (tgt := 9) dX2_fits_93 (by decide) ?_
              have hx := gFt_s (f := fun k => v 41 (80 * r + k)) (g := g) (b := b) (c := c) h0
              have e9 : (gFt (fun k => v 41 (80 * r + k)) g b c i.toNat) = (true, s) := q2
              rw [e9, if_pos rfl] at hx
              dsimp only at hx
              refine ih (i + 1) _ _ (by omega) (by omega) ?_
              show (_ ∧ gFt (fun k => v 41 (80 * r + k)) g b c (i + 1).toNat = _) ∨ (_ ∧ (gFt (fun k => v 41 (80 * r + k)) g b c (i + 1).toNat).1 = _)
              rw [hx]
              first
                | (exfalso; omega)
                | (refine Or.inl ⟨rfl, ?_⟩
                   rw [decide_eq_true (by omega), if_pos (by omega)]
                   done)
                | (refine Or.inl ⟨rfl, ?_⟩
                   rw [decide_eq_true (by omega), if_neg (by omega)]
                   done)
                | exact Or.inr ⟨rfl, decide_eq_false (by omega)⟩
          · refine Gx_iconst ⟨by decide, by decide⟩ dX2_fits_58 ?_
            refine Gx_goto (tgt := 63) dX2_fits_59 (by decide) ?_
            refine Gx_icmp_ne (tgt := 70) dX2_fits_63 (by decide) (fun _ => ?_) (fun hz => absurd hz (by decide))
            refine Gx_iconst ⟨by decide, by decide⟩ dX2_fits_70 ?_
            refine Gx_istore_6 dX2_fits_71 (Nat.le_of_ble_eq_true rfl) (Nat.ne_of_beq_eq_false rfl) ?_
            refine Gx_iload dX2_fits_73 rfl ?_
            refine Gx_iload dX2_fits_75 rfl ?_
            refine Gx_iload_n (i := 3) dX2_fits_77 rfl rfl ?_
            refine Gx_icmp_le (tgt := 86) dX2_fits_78 (by decide) (fun c78 => ?_) (fun c78 => ?_)
            · refine Gx_iconst ⟨by decide, by decide⟩ dX2_fits_86 ?_
              refine Gx_isub dX2_fits_87 ?_
              try simp (disch := omega) only [w32_id]
              refine Gx_istore_5 dX2_fits_88 (Nat.le_of_ble_eq_true rfl) (Nat.ne_of_beq_eq_false rfl) ?_
              refine Gx_iinc_7 dX2_fits_90 (Nat.le_of_ble_eq_true rfl) (Nat.ne_of_beq_eq_false rfl) ?_
              try simp (disch := omega) only [w32_id]
              refine Gx_goto (tgt := 9) dX2_fits_93 (by decide) ?_
              have hx := gFt_s (f := fun k => v 41 (80 * r + k)) (g := g) (b := b) (c := c) h0
              have e9 : (gFt (fun k => v 41 (80 * r + k)) g b c i.toNat) = (true, s) := q2
              rw [e9, if_pos rfl] at hx
              dsimp only at hx
              refine ih (i + 1) _ _ (by omega) (by omega) ?_
              show (_ ∧ gFt (fun k => v 41 (80 * r + k)) g b c (i + 1).toNat = _) ∨ (_ ∧ (gFt (fun k => v 41 (80 * r + k)) g b c (i + 1).toNat).1 = _)
              rw [hx]
              first
                | (exfalso; omega)
                | (refine Or.inl ⟨rfl, ?_⟩
                   rw [decide_eq_true (by omega), if_pos (by omega)]
                   done)
                | (refine Or.inl ⟨rfl, ?_⟩
                   rw [decide_eq_true (by omega), if_neg (by omega)]
                   done)
                | exact Or.inr ⟨rfl, decide_eq_false (by omega)⟩
            · refine Gx_iload dX2_fits_81 rfl ?_
              refine Gx_goto (tgt := 87) dX2_fits_83 (by decide) ?_
              refine Gx_isub dX2_fits_87 ?_
              try simp (disch := omega) only [w32_id]
              refine Gx_istore_5 dX2_fits_88 (Nat.le_of_ble_eq_true rfl) (Nat.ne_of_beq_eq_false rfl) ?_
              refine Gx_iinc_7 dX2_fits_90 (Nat.le_of_ble_eq_true rfl) (Nat.ne_of_beq_eq_false rfl) ?_
              try simp (disch := omega) only [w32_id]
              refine Gx_goto (tgt := 9) dX2_fits_93 (by decide) ?_
              have hx := gFt_s (f := fun k => v 41 (80 * r + k)) (g := g) (b := b) (c := c) h0
              have e9 : (gFt (fun k => v 41 (80 * r + k)) g b c i.toNat) = (true, s) := q2
              rw [e9, if_pos rfl] at hx
              dsimp only at hx
              refine ih (i + 1) _ _ (by omega) (by omega) ?_
              show (_ ∧ gFt (fun k => v 41 (80 * r + k)) g b c (i + 1).toNat = _) ∨ (_ ∧ (gFt (fun k => v 41 (80 * r + k)) g b c (i + 1).toNat).1 = _)
              rw [hx]
              first
                | (exfalso; omega)
                | (refine Or.inl ⟨rfl, ?_⟩
                   rw [decide_eq_true (by omega), if_pos (by omega)]
                   done)
                | (refine Or.inl ⟨rfl, ?_⟩
                   rw [decide_eq_true (by omega), if_neg (by omega)]
                   done)
                | exact Or.inr ⟨rfl, decide_eq_false (by omega)⟩
        · refine Gx_iconst ⟨by decide, by decide⟩ dX2_fits_42 ?_
          refine Gx_goto (tgt := 47) dX2_fits_43 (by decide) ?_
          refine Gx_aload_n (i := 0) dX2_fits_47 rfl rfl ?_
          refine Gx_iload_n (i := 1) dX2_fits_48 rfl rfl ?_
          refine Gx_iload dX2_fits_49 rfl ?_
          refine cl_X2_122 dX2_fits_51 rfl rfl ⟨(Nat.le_of_ble_eq_true rfl), (Nat.le_of_ble_eq_true rfl)⟩ rfl ?_
          refine ct_X2_rowAt (by omega) (by omega) ?_
          refine Gx_iconst ⟨by decide, by decide⟩ dX2_fits_54 ?_
          refine Gx_icmp_ne (tgt := 62) dX2_fits_55 (by decide) (fun c55 => ?_) (fun c55 => ?_)
          · refine Gx_iconst ⟨by decide, by decide⟩ dX2_fits_62 ?_
            refine Gx_icmp_ne (tgt := 70) dX2_fits_63 (by decide) (fun _ => ?_) (fun hz => absurd hz (by decide))
            refine Gx_iconst ⟨by decide, by decide⟩ dX2_fits_70 ?_
            refine Gx_istore_6 dX2_fits_71 (Nat.le_of_ble_eq_true rfl) (Nat.ne_of_beq_eq_false rfl) ?_
            refine Gx_iload dX2_fits_73 rfl ?_
            refine Gx_iload dX2_fits_75 rfl ?_
            refine Gx_iload_n (i := 3) dX2_fits_77 rfl rfl ?_
            refine Gx_icmp_le (tgt := 86) dX2_fits_78 (by decide) (fun c78 => ?_) (fun c78 => ?_)
            · refine Gx_iconst ⟨by decide, by decide⟩ dX2_fits_86 ?_
              refine Gx_isub dX2_fits_87 ?_
              try simp (disch := omega) only [w32_id]
              refine Gx_istore_5 dX2_fits_88 (Nat.le_of_ble_eq_true rfl) (Nat.ne_of_beq_eq_false rfl) ?_
              refine Gx_iinc_7 dX2_fits_90 (Nat.le_of_ble_eq_true rfl) (Nat.ne_of_beq_eq_false rfl) ?_
              try simp (disch := omega) only [w32_id]
              refine Gx_goto (tgt := 9) dX2_fits_93 (by decide) ?_
              have hx := gFt_s (f := fun k => v 41 (80 * r + k)) (g := g) (b := b) (c := c) h0
              have e9 : (gFt (fun k => v 41 (80 * r + k)) g b c i.toNat) = (true, s) := q2
              rw [e9, if_pos rfl] at hx
              dsimp only at hx
              refine ih (i + 1) _ _ (by omega) (by omega) ?_
              show (_ ∧ gFt (fun k => v 41 (80 * r + k)) g b c (i + 1).toNat = _) ∨ (_ ∧ (gFt (fun k => v 41 (80 * r + k)) g b c (i + 1).toNat).1 = _)
              rw [hx]
              first
                | (exfalso; omega)
                | (refine Or.inl ⟨rfl, ?_⟩
                   rw [decide_eq_true (by omega), if_pos (by omega)]
                   done)
                | (refine Or.inl ⟨rfl, ?_⟩
                   rw [decide_eq_true (by omega), if_neg (by omega)]
                   done)
                | exact Or.inr ⟨rfl, decide_eq_false (by omega)⟩
            · refine Gx_iload dX2_fits_81 rfl ?_
              refine Gx_goto (tgt := 87) dX2_fits_83 (by decide) ?_
              refine Gx_isub dX2_fits_87 ?_
              try simp (disch := omega) only [w32_id]
              refine Gx_istore_5 dX2_fits_88 (Nat.le_of_ble_eq_true rfl) (Nat.ne_of_beq_eq_false rfl) ?_
              refine Gx_iinc_7 dX2_fits_90 (Nat.le_of_ble_eq_true rfl) (Nat.ne_of_beq_eq_false rfl) ?_
              try simp (disch := omega) only [w32_id]
              refine Gx_goto (tgt := 9) dX2_fits_93 (by decide) ?_
              have hx := gFt_s (f := fun k => v 41 (80 * r + k)) (g := g) (b := b) (c := c) h0
              have e9 : (gFt (fun k => v 41 (80 * r + k)) g b c i.toNat) = (true, s) := q2
              rw [e9, if_pos rfl] at hx
              dsimp only at hx
              refine ih (i + 1) _ _ (by omega) (by omega) ?_
              show (_ ∧ gFt (fun k => v 41 (80 * r + k)) g b c (i + 1).toNat = _) ∨ (_ ∧ (gFt (fun k => v 41 (80 * r + k)) g b c (i + 1).toNat).1 = _)
              rw [hx]
              first
                | (exfalso; omega)
                | (refine Or.inl ⟨rfl, ?_⟩
                   rw [decide_eq_true (by omega), if_pos (by omega)]
                   done)
                | (refine Or.inl ⟨rfl, ?_⟩
                   rw [decide_eq_true (by omega), if_neg (by omega)]
                   done)
                | exact Or.inr ⟨rfl, decide_eq_false (by omega)⟩
          · refine Gx_iconst ⟨by decide, by decide⟩ dX2_fits_58 ?_
            refine Gx_goto (tgt := 63) dX2_fits_59 (by decide) ?_
            refine Gx_icmp_ne (tgt := 70) dX2_fits_63 (by decide) (fun hz => absurd hz (by decide)) (fun _ => ?_)
            refine Gx_iconst ⟨by decide, by decide⟩ dX2_fits_66 ?_
            refine Gx_goto (tgt := 71) dX2_fits_67 (by decide) ?_
            refine Gx_istore_6 dX2_fits_71 (Nat.le_of_ble_eq_true rfl) (Nat.ne_of_beq_eq_false rfl) ?_
            refine Gx_iload dX2_fits_73 rfl ?_
            refine Gx_iload dX2_fits_75 rfl ?_
            refine Gx_iload_n (i := 3) dX2_fits_77 rfl rfl ?_
            refine Gx_icmp_le (tgt := 86) dX2_fits_78 (by decide) (fun c78 => ?_) (fun c78 => ?_)
            · refine Gx_iconst ⟨by decide, by decide⟩ dX2_fits_86 ?_
              refine Gx_isub dX2_fits_87 ?_
              try simp (disch := omega) only [w32_id]
              refine Gx_istore_5 dX2_fits_88 (Nat.le_of_ble_eq_true rfl) (Nat.ne_of_beq_eq_false rfl) ?_
              refine Gx_iinc_7 dX2_fits_90 (Nat.le_of_ble_eq_true rfl) (Nat.ne_of_beq_eq_false rfl) ?_
              try simp (disch := omega) only [w32_id]
              refine Gx_goto (tgt := 9) dX2_fits_93 (by decide) ?_
              have hx := gFt_s (f := fun k => v 41 (80 * r + k)) (g := g) (b := b) (c := c) h0
              have e9 : (gFt (fun k => v 41 (80 * r + k)) g b c i.toNat) = (true, s) := q2
              rw [e9, if_pos rfl] at hx
              dsimp only at hx
              refine ih (i + 1) _ _ (by omega) (by omega) ?_
              show (_ ∧ gFt (fun k => v 41 (80 * r + k)) g b c (i + 1).toNat = _) ∨ (_ ∧ (gFt (fun k => v 41 (80 * r + k)) g b c (i + 1).toNat).1 = _)
              rw [hx]
              first
                | (exfalso; omega)
                | (refine Or.inl ⟨rfl, ?_⟩
                   rw [decide_eq_true (by omega), if_pos (by omega)]
                   done)
                | (refine Or.inl ⟨rfl, ?_⟩
                   rw [decide_eq_true (by omega), if_neg (by omega)]
                   done)
                | exact Or.inr ⟨rfl, decide_eq_false (by omega)⟩
            · refine Gx_iload dX2_fits_81 rfl ?_
              refine Gx_goto (tgt := 87) dX2_fits_83 (by decide) ?_
              refine Gx_isub dX2_fits_87 ?_
              try simp (disch := omega) only [w32_id]
              refine Gx_istore_5 dX2_fits_88 (Nat.le_of_ble_eq_true rfl) (Nat.ne_of_beq_eq_false rfl) ?_
              refine Gx_iinc_7 dX2_fits_90 (Nat.le_of_ble_eq_true rfl) (Nat.ne_of_beq_eq_false rfl) ?_
              try simp (disch := omega) only [w32_id]
              refine Gx_goto (tgt := 9) dX2_fits_93 (by decide) ?_
              have hx := gFt_s (f := fun k => v 41 (80 * r + k)) (g := g) (b := b) (c := c) h0
              have e9 : (gFt (fun k => v 41 (80 * r + k)) g b c i.toNat) = (true, s) := q2
              rw [e9, if_pos rfl] at hx
              dsimp only at hx
              refine ih (i + 1) _ _ (by omega) (by omega) ?_
              show (_ ∧ gFt (fun k => v 41 (80 * r + k)) g b c (i + 1).toNat = _) ∨ (_ ∧ (gFt (fun k => v 41 (80 * r + k)) g b c (i + 1).toNat).1 = _)
              rw [hx]
              first
                | (exfalso; omega)
                | (refine Or.inl ⟨rfl, ?_⟩
                   rw [decide_eq_true (by omega), if_pos (by omega)]
                   done)
                | (refine Or.inl ⟨rfl, ?_⟩
                   rw [decide_eq_true (by omega), if_neg (by omega)]
                   done)
                | exact Or.inr ⟨rfl, decide_eq_false (by omega)⟩
theorem ct_X2_fits {r g b c : Int} (hr : 0 ≤ r ∧ r ≤ 5) (hn : 0 ≤ v 40 r ∧ v 40 r ≤ 80) (hg : 0 ≤ g ∧ g ≤ 9) (hb : 0 ≤ b ∧ b ≤ 60) (hc : 1 ≤ c ∧ c ≤ b + 1) (k1 : mFits v r g b c = true → Q (0, 1) v (gHd K) t) (k0 : mFits v r g b c = false → Q (0, 0) v (gHd K) t) : Ctr Γ mX2_fits [(2, 38), (0, r), (0, g), (0, b), (0, c)] v (gHd K) t Q := by
  refine Ctr.ofG (ls := [(2, 38), (0, r), (0, g), (0, b), (0, c), (9, 0), (9, 0), (9, 0)]) rfl rfl rfl rfl rfl ?_
  refine Gx_iconst ⟨by decide, by decide⟩ dX2_fits_0 ?_
  refine Gx_istore_5 dX2_fits_1 (Nat.le_of_ble_eq_true rfl) (Nat.ne_of_beq_eq_false rfl) ?_
  refine Gx_iconst ⟨by decide, by decide⟩ dX2_fits_3 ?_
  refine Gx_istore_6 dX2_fits_4 (Nat.le_of_ble_eq_true rfl) (Nat.ne_of_beq_eq_false rfl) ?_
  refine Gx_iconst ⟨by decide, by decide⟩ dX2_fits_6 ?_
  refine Gx_istore_7 dX2_fits_7 (Nat.le_of_ble_eq_true rfl) (Nat.ne_of_beq_eq_false rfl) ?_
  exact lp_X2_fits (n := v 40 r) hr rfl (by omega) hg hb hc k1 k0 (v 40 r).toNat 0 0 1 (by omega) (by omega) (Or.inl ⟨rfl, rfl⟩)
end
