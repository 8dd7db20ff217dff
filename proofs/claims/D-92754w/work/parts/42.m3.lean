/-! AcornYearsModel: copy, mean, byteAt, fraction -/
section
variable {Γ : gC} {v : gM} {K : gH} {t : Nat} {Q : gQ}
def sCopy (v : gM) (r i d j n : Int) : Int × gM := if ¬ (0 ≤ r ∧ r ≤ 5) ∨ ¬ (0 ≤ d ∧ d ≤ 5) then (-1, v) else if n < 0 then (-3, sMeet v 5) else if v 40 r < 0 ∨ v 40 d < 0 then (-3, sMeet v 1) else if i < 0 ∨ j < 0 ∨ v 40 r < i + n ∨ v 40 d < j + n then (-3, sMeet v 2) else (1, gCopy (gCopy v 42 0 n (fun k => v 41 (80 * r + (i + k)))) 41 (80 * d + j) n (fun k => v 41 (80 * r + (i + k))))
def gSum (f : Int → Int) : Nat → Int
  | 0 => 0
  | n + 1 => w64 (gSum f n + f n)
def sMean (v : gM) (r : Int) : Int × gM := if ¬ (0 ≤ r ∧ r ≤ 5) then (-1, v) else if v 40 r < 0 then (-3, sMeet v 1) else if v 40 r = 0 then (-3, sMeet v 4) else (1, gUp v 38 2 (w32 (w64 ((gSum (fun k => v 41 (80 * r + k)) (v 40 r).toNat).tdiv (v 40 r)))))
def sByte (v : gM) (r i : Int) : Int := if i < v 43 r then v 44 (80 * r + i) else 0
def gG : Nat → Int → Int → Int
  | 0, a, _ => a
  | n + 1, a, b => if b = 0 then a else gG n b (a.tmod b)
theorem gG_ne : ∀ (n : Nat) (a b : Int), a ≠ 0 → gG n a b ≠ 0
  | 0, a, b, h => h
  | n + 1, a, b, h => by
    unfold gG
    split
    · exact h
    · exact gG_ne n b _ (by assumption)
theorem gG_ne2 {n : Nat} {a b : Int} (h : b ≠ 0) : gG (n + 1) a b ≠ 0 := by
  unfold gG
  rw [if_neg h]
  exact gG_ne n b _ h
/-- the greatest measure, as both systems find it -/
def gGcd (u l : Int) : Int := gG (l.natAbs + 1) u l
theorem gGcd_ne {u l : Int} (h : l ≠ 0) : gGcd u l ≠ 0 := gG_ne2 h
def sFrac (v : gM) (u l : Int) : gM := gUp (gUp v 38 3 (w64 (u.tdiv (gGcd u l)))) 38 4 (w64 (l.tdiv (gGcd u l)))
theorem gUp_get {v : gM} {a j x b k : Int} : gUp v a j x b k = if b = a then (if k = j then x else v b k) else v b k := rfl

theorem lp_X2_copy1 {r i d j0 n : Int} {bc bs : Nat} {f : Int → Int} {v : gM} (hr : 0 ≤ r ∧ r ≤ 5) (hi : 0 ≤ i ∧ i + n ≤ 80) (hf : ∀ k, f k = v 41 (80 * r + (i + k))) : ∀ (j : Nat) (x : Int), 0 ≤ x → x + j = n → Gx Γ mX2_copy 133 [(2, 38), (0, r), (0, i), (0, d), (0, j0), (0, n), (0, n)] [] (gCopy v 42 0 n f) (gHd K) t bc bs Q → Gx Γ mX2_copy 104 [(2, 38), (0, r), (0, i), (0, d), (0, j0), (0, n), (0, x)] [] (gCopy v 42 0 x f) (gHd K) t bc bs Q := by
  intro j
  induction j with
  | zero =>
    intro x h0 h1 k
    refine Gx_iload dX2_copy_104 rfl ?_
    refine Gx_iload dX2_copy_106 rfl ?_
    refine Gx_icmp_ge (tgt := 133) dX2_copy_108 (by decide) (fun c108 => ?_) (fun c108 => ?_)
    · have e : x = n := by omega
      rw [e]
      exact k
    · refine Gx_aload_n (i := 0) dX2_copy_111 rfl rfl ?_
      refine gf_X2_19_22 dX2_copy_112 rfl rfl ?_
      refine Gx_iload dX2_copy_115 rfl ?_
      refine Gx_aload_n (i := 0) dX2_copy_117 rfl rfl ?_
      refine Gx_iload_n (i := 1) dX2_copy_118 rfl rfl ?_
      refine Gx_iload_n (i := 2) dX2_copy_119 rfl rfl ?_
      refine Gx_iload dX2_copy_120 rfl ?_
      refine Gx_iadd dX2_copy_122 ?_
      try simp (disch := omega) only [w32_id]
      refine cl_X2_122 dX2_copy_123 rfl rfl ⟨(Nat.le_of_ble_eq_true rfl), (Nat.le_of_ble_eq_true rfl)⟩ rfl ?_
      refine ct_X2_rowAt (by first | omega | (simp (disch := omega) only [w32_id]; omega)) (by first | omega | (simp (disch := omega) only [w32_id]; omega)) ?_
      refine Gx_iastore dX2_copy_126 rfl (by first | omega | (simp (disch := omega) only [w32_id]; omega)) ?_
      refine Gx_iinc_6 dX2_copy_127 (Nat.le_of_ble_eq_true rfl) (Nat.ne_of_beq_eq_false rfl) ?_
      try simp (disch := omega) only [w32_id]
      refine Gx_goto (tgt := 104) dX2_copy_130 (by decide) ?_
      exfalso
      omega
  | succ j ih =>
    intro x h0 h1 k
    refine Gx_iload dX2_copy_104 rfl ?_
    refine Gx_iload dX2_copy_106 rfl ?_
    refine Gx_icmp_ge (tgt := 133) dX2_copy_108 (by decide) (fun c108 => ?_) (fun c108 => ?_)
    · exfalso
      omega
    · refine Gx_aload_n (i := 0) dX2_copy_111 rfl rfl ?_
      refine gf_X2_19_22 dX2_copy_112 rfl rfl ?_
      refine Gx_iload dX2_copy_115 rfl ?_
      refine Gx_aload_n (i := 0) dX2_copy_117 rfl rfl ?_
      refine Gx_iload_n (i := 1) dX2_copy_118 rfl rfl ?_
      refine Gx_iload_n (i := 2) dX2_copy_119 rfl rfl ?_
      refine Gx_iload dX2_copy_120 rfl ?_
      refine Gx_iadd dX2_copy_122 ?_
      try simp (disch := omega) only [w32_id]
      refine cl_X2_122 dX2_copy_123 rfl rfl ⟨(Nat.le_of_ble_eq_true rfl), (Nat.le_of_ble_eq_true rfl)⟩ rfl ?_
      refine ct_X2_rowAt (by first | omega | (simp (disch := omega) only [w32_id]; omega)) (by first | omega | (simp (disch := omega) only [w32_id]; omega)) ?_
      refine Gx_iastore dX2_copy_126 rfl (by first | omega | (simp (disch := omega) only [w32_id]; omega)) ?_
      refine Gx_iinc_6 dX2_copy_127 (Nat.le_of_ble_eq_true rfl) (Nat.ne_of_beq_eq_false rfl) ?_
      try simp (disch := omega) only [w32_id]
      refine Gx_goto (tgt := 104) dX2_copy_130 (by decide) ?_
      have e : gUp (gCopy v 42 0 x f) 42 x (gCopy v 42 0 x f 41 (80 * r + (i + x))) = gCopy v 42 0 (x + 1) f := by
        have h2 := gCopy_step (v := v) (a := 42) (lo := 0) (i := x) (f := f) h0
        rw [show (0 : Int) + x = x by omega, hf x] at h2
        rw [← h2]
        rfl
      rw [e]
      exact ih (x + 1) (by omega) (by omega) k
theorem lp_X2_copy2 {r i d j0 n : Int} {bc bs : Nat} {f : Int → Int} {v : gM} (hd : 0 ≤ d ∧ d ≤ 5) (hj : 0 ≤ j0 ∧ j0 + n ≤ 80) (hf : ∀ k, 0 ≤ k → k < n → v 42 k = f k) : ∀ (j : Nat) (x : Int), 0 ≤ x → x + j = n → Q (0, 1) (gCopy v 41 (80 * d + j0) n f) (gHd K) t → Gx Γ mX2_copy 136 [(2, 38), (0, r), (0, i), (0, d), (0, j0), (0, n), (0, x)] [] (gCopy v 41 (80 * d + j0) x f) (gHd K) t bc bs Q := by
  intro j
  induction j with
  | zero =>
    intro x h0 h1 k
    refine Gx_iload dX2_copy_136 rfl ?_
    refine Gx_iload dX2_copy_138 rfl ?_
    refine Gx_icmp_ge (tgt := 171) dX2_copy_140 (by decide) (fun c140 => ?_) (fun c140 => ?_)
    · refine Gx_iconst ⟨by decide, by decide⟩ dX2_copy_171 ?_
      refine Gx_ireturn dX2_copy_172 trivial ?_
      have e : x = n := by omega
      rw [e]
      exact k
    · refine Gx_aload_n (i := 0) dX2_copy_143 rfl rfl ?_
      refine gf_X2_16_22 dX2_copy_144 rfl rfl ?_
      refine Gx_bipush dX2_copy_147 ⟨by decide, by decide⟩ ?_
      refine Gx_iload_n (i := 3) dX2_copy_149 rfl rfl ?_
      refine Gx_imul dX2_copy_150 ?_
      try simp (disch := omega) only [w32_id]
      refine Gx_iload dX2_copy_151 rfl ?_
      refine Gx_iadd dX2_copy_153 ?_
      try simp (disch := omega) only [w32_id]
      refine Gx_iload dX2_copy_154 rfl ?_
      refine Gx_iadd dX2_copy_156 ?_
      try simp (disch := omega) only [w32_id]
      refine Gx_aload_n (i := 0) dX2_copy_157 rfl rfl ?_
      refine gf_X2_19_22 dX2_copy_158 rfl rfl ?_
      refine Gx_iload dX2_copy_161 rfl ?_
      refine Gx_iaload dX2_copy_163 rfl (by first | omega | (simp (disch := omega) only [w32_id]; omega)) ?_
      refine Gx_iastore dX2_copy_164 rfl (by first | omega | (simp (disch := omega) only [w32_id]; omega)) ?_
      refine Gx_iinc_6 dX2_copy_165 (Nat.le_of_ble_eq_true rfl) (Nat.ne_of_beq_eq_false rfl) ?_
      try simp (disch := omega) only [w32_id]
      refine Gx_goto (tgt := 136) dX2_copy_168 (by decide) ?_
      exfalso
      omega
  | succ j ih =>
    intro x h0 h1 k
    refine Gx_iload dX2_copy_136 rfl ?_
    refine Gx_iload dX2_copy_138 rfl ?_
    refine Gx_icmp_ge (tgt := 171) dX2_copy_140 (by decide) (fun c140 => ?_) (fun c140 => ?_)
    · refine Gx_iconst ⟨by decide, by decide⟩ dX2_copy_171 ?_
      refine Gx_ireturn dX2_copy_172 trivial ?_
      exfalso
      omega
    · refine Gx_aload_n (i := 0) dX2_copy_143 rfl rfl ?_
      refine gf_X2_16_22 dX2_copy_144 rfl rfl ?_
      refine Gx_bipush dX2_copy_147 ⟨by decide, by decide⟩ ?_
      refine Gx_iload_n (i := 3) dX2_copy_149 rfl rfl ?_
      refine Gx_imul dX2_copy_150 ?_
      try simp (disch := omega) only [w32_id]
      refine Gx_iload dX2_copy_151 rfl ?_
      refine Gx_iadd dX2_copy_153 ?_
      try simp (disch := omega) only [w32_id]
      refine Gx_iload dX2_copy_154 rfl ?_
      refine Gx_iadd dX2_copy_156 ?_
      try simp (disch := omega) only [w32_id]
      refine Gx_aload_n (i := 0) dX2_copy_157 rfl rfl ?_
      refine gf_X2_19_22 dX2_copy_158 rfl rfl ?_
      refine Gx_iload dX2_copy_161 rfl ?_
      refine Gx_iaload dX2_copy_163 rfl (by first | omega | (simp (disch := omega) only [w32_id]; omega)) ?_
      refine Gx_iastore dX2_copy_164 rfl (by first | omega | (simp (disch := omega) only [w32_id]; omega)) ?_
      refine Gx_iinc_6 dX2_copy_165 (Nat.le_of_ble_eq_true rfl) (Nat.ne_of_beq_eq_false rfl) ?_
      try simp (disch := omega) only [w32_id]
      refine Gx_goto (tgt := 136) dX2_copy_168 (by decide) ?_
      have e : gUp (gCopy v 41 (80 * d + j0) x f) 41 (80 * d + j0 + x) (gCopy v 41 (80 * d + j0) x f 42 x) = gCopy v 41 (80 * d + j0) (x + 1) f := by
        rw [← gCopy_step (v := v) (a := 41) (lo := 80 * d + j0) (i := x) (f := f) h0, ← hf x h0 (by omega)]
        rfl
      rw [e]
      exact ih (x + 1) (by omega) (by omega) k
set_option maxHeartbeats 1000000 in
theorem ct_X2_copy {r i d j n : Int} (hS : oSz v) (k : Q (0, (sCopy v r i d j n).1) (sCopy v r i d j n).2 (gHd K) t) : Ctr Γ mX2_copy [(2, 38), (0, r), (0, i), (0, d), (0, j), (0, n)] v (gHd K) t Q := by
  refine Ctr.ofG (ls := [(2, 38), (0, r), (0, i), (0, d), (0, j), (0, n), (9, 0)]) rfl rfl rfl rfl rfl ?_
  refine Gx_range (i := 2) rfl (fun hr2 => ?_)
  have hr2 : -2147483648 ≤ i ∧ i < 2147483648 := hr2
  refine Gx_range (i := 4) rfl (fun hr4 => ?_)
  have hr4 : -2147483648 ≤ j ∧ j < 2147483648 := hr4
  refine Gx_range (i := 5) rfl (fun hr5 => ?_)
  have hr5 : -2147483648 ≤ n ∧ n < 2147483648 := hr5
  refine Gx_iload_n (i := 1) dX2_copy_0 rfl rfl ?_
  refine cl_X2_114 dX2_copy_1 rfl ⟨(Nat.le_of_ble_eq_true rfl), (Nat.le_of_ble_eq_true rfl)⟩ rfl ?_
  refine ct_X2_isRow (fun c1 => ?_) (fun c1 => ?_)
  · refine Gx_if_eq (tgt := 14) dX2_copy_4 (by decide) (fun hz => absurd hz (by decide)) (fun _ => ?_)
    refine Gx_iload_n (i := 3) dX2_copy_7 rfl rfl ?_
    refine cl_X2_114 dX2_copy_8 rfl ⟨(Nat.le_of_ble_eq_true rfl), (Nat.le_of_ble_eq_true rfl)⟩ rfl ?_
    refine ct_X2_isRow (fun c8 => ?_) (fun c8 => ?_)
    · refine Gx_if_ne (tgt := 16) dX2_copy_11 (by decide) (fun _ => ?_) (fun hz => absurd hz (by decide))
      have hs := hS r (by omega) (by omega)
      have hs2 := hS d (by omega) (by omega)
      refine Gx_iload dX2_copy_16 rfl ?_
      refine Gx_if_ge (tgt := 27) dX2_copy_18 (by decide) (fun c18 => ?_) (fun c18 => ?_)
      · refine Gx_aload_n (i := 0) dX2_copy_27 rfl rfl ?_
        refine gf_X2_13_22 dX2_copy_28 rfl rfl ?_
        refine Gx_iload_n (i := 1) dX2_copy_31 rfl rfl ?_
        refine Gx_iaload dX2_copy_32 rfl (by first | omega | (simp (disch := omega) only [w32_id]; omega)) ?_
        refine Gx_if_lt (tgt := 45) dX2_copy_33 (by decide) (fun c33 => ?_) (fun c33 => ?_)
        · refine Gx_aload_n (i := 0) dX2_copy_45 rfl rfl ?_
          refine Gx_iconst ⟨by decide, by decide⟩ dX2_copy_46 ?_
          refine cl_X2_118 dX2_copy_47 rfl rfl ⟨(Nat.le_of_ble_eq_true rfl), (Nat.le_of_ble_eq_true rfl)⟩ rfl ?_
          refine ct_X2_meets (by omega) ?_
          refine Gx_ireturn dX2_copy_50 trivial ?_
          unfold sCopy at k
          (repeat' split at k) <;> first | exact k | (exfalso; omega)
        · refine Gx_aload_n (i := 0) dX2_copy_36 rfl rfl ?_
          refine gf_X2_13_22 dX2_copy_37 rfl rfl ?_
          refine Gx_iload_n (i := 3) dX2_copy_40 rfl rfl ?_
          refine Gx_iaload dX2_copy_41 rfl (by first | omega | (simp (disch := omega) only [w32_id]; omega)) ?_
          refine Gx_if_ge (tgt := 51) dX2_copy_42 (by decide) (fun c42 => ?_) (fun c42 => ?_)
          · refine Gx_iload_n (i := 2) dX2_copy_51 rfl rfl ?_
            refine Gx_if_lt (tgt := 95) dX2_copy_52 (by decide) (fun c52 => ?_) (fun c52 => ?_)
            · refine Gx_aload_n (i := 0) dX2_copy_95 rfl rfl ?_
              refine Gx_iconst ⟨by decide, by decide⟩ dX2_copy_96 ?_
              refine cl_X2_118 dX2_copy_97 rfl rfl ⟨(Nat.le_of_ble_eq_true rfl), (Nat.le_of_ble_eq_true rfl)⟩ rfl ?_
              refine ct_X2_meets (by omega) ?_
              refine Gx_ireturn dX2_copy_100 trivial ?_
              unfold sCopy at k
              (repeat' split at k) <;> first | exact k | (exfalso; omega)
            · refine Gx_iload dX2_copy_55 rfl ?_
              refine Gx_if_lt (tgt := 95) dX2_copy_57 (by decide) (fun c57 => ?_) (fun c57 => ?_)
              · refine Gx_aload_n (i := 0) dX2_copy_95 rfl rfl ?_
                refine Gx_iconst ⟨by decide, by decide⟩ dX2_copy_96 ?_
                refine cl_X2_118 dX2_copy_97 rfl rfl ⟨(Nat.le_of_ble_eq_true rfl), (Nat.le_of_ble_eq_true rfl)⟩ rfl ?_
                refine ct_X2_meets (by omega) ?_
                refine Gx_ireturn dX2_copy_100 trivial ?_
                unfold sCopy at k
                (repeat' split at k) <;> first | exact k | (exfalso; omega)
              · refine Gx_iload_n (i := 2) dX2_copy_60 rfl rfl ?_
                refine Gx_i2l dX2_copy_61 ?_
                refine Gx_iload dX2_copy_62 rfl ?_
                refine Gx_i2l dX2_copy_64 ?_
                refine Gx_ladd dX2_copy_65 ?_
                refine Gx_aload_n (i := 0) dX2_copy_66 rfl rfl ?_
                refine gf_X2_13_22 dX2_copy_67 rfl rfl ?_
                refine Gx_iload_n (i := 1) dX2_copy_70 rfl rfl ?_
                refine Gx_iaload dX2_copy_71 rfl (by first | omega | (simp (disch := omega) only [w32_id]; omega)) ?_
                refine Gx_i2l dX2_copy_72 ?_
                try simp (disch := omega) only [w64_id]
                refine Gx_lcmpif_gt (tgt := 95) dX2_copy_73 dX2_copy_74 (by decide) (fun c73 => ?_) (fun c73 => ?_)
                · refine Gx_aload_n (i := 0) dX2_copy_95 rfl rfl ?_
                  refine Gx_iconst ⟨by decide, by decide⟩ dX2_copy_96 ?_
                  refine cl_X2_118 dX2_copy_97 rfl rfl ⟨(Nat.le_of_ble_eq_true rfl), (Nat.le_of_ble_eq_true rfl)⟩ rfl ?_
                  refine ct_X2_meets (by omega) ?_
                  refine Gx_ireturn dX2_copy_100 trivial ?_
                  unfold sCopy at k
                  (repeat' split at k) <;> first | exact k | (exfalso; omega)
                · refine Gx_iload dX2_copy_77 rfl ?_
                  refine Gx_i2l dX2_copy_79 ?_
                  refine Gx_iload dX2_copy_80 rfl ?_
                  refine Gx_i2l dX2_copy_82 ?_
                  refine Gx_ladd dX2_copy_83 ?_
                  refine Gx_aload_n (i := 0) dX2_copy_84 rfl rfl ?_
                  refine gf_X2_13_22 dX2_copy_85 rfl rfl ?_
                  refine Gx_iload_n (i := 3) dX2_copy_88 rfl rfl ?_
                  refine Gx_iaload dX2_copy_89 rfl (by first | omega | (simp (disch := omega) only [w32_id]; omega)) ?_
                  refine Gx_i2l dX2_copy_90 ?_
                  try simp (disch := omega) only [w64_id]
                  refine Gx_lcmpif_le (tgt := 101) dX2_copy_91 dX2_copy_92 (by decide) (fun c91 => ?_) (fun c91 => ?_)
                  · refine Gx_iconst ⟨by decide, by decide⟩ dX2_copy_101 ?_
                    refine Gx_istore_6 dX2_copy_102 (Nat.le_of_ble_eq_true rfl) (Nat.ne_of_beq_eq_false rfl) ?_
                    have hl := lp_X2_copy1 (Γ := Γ) (K := K) (t := t) (Q := Q) (r := r) (i := i) (d := d) (j0 := j) (n := n) (bc := 0) (bs := 0) (f := fun k => v 41 (80 * r + (i + k))) (v := v) (by omega) (by omega) (fun k => rfl) n.toNat 0 (by omega) (by omega)
                    rw [gCopy_0] at hl
                    refine hl ?_
                    refine Gx_iconst ⟨by decide, by decide⟩ dX2_copy_133 ?_
                    refine Gx_istore_6 dX2_copy_134 (Nat.le_of_ble_eq_true rfl) (Nat.ne_of_beq_eq_false rfl) ?_
                    have hl2 := lp_X2_copy2 (Γ := Γ) (K := K) (t := t) (Q := Q) (r := r) (i := i) (d := d) (j0 := j) (n := n) (bc := 0) (bs := 0) (f := fun k => v 41 (80 * r + (i + k))) (v := gCopy v 42 0 n (fun k => v 41 (80 * r + (i + k)))) (by omega) (by omega) (fun k h1 h2 => by unfold gCopy; rw [if_pos ⟨rfl, by omega, by omega⟩, show k - 0 = k by omega]) n.toNat 0 (by omega) (by omega)
                    rw [gCopy_0] at hl2
                    refine hl2 ?_
                    unfold sCopy at k
                    (repeat' split at k) <;> first | exact k | (exfalso; omega)
                  · refine Gx_aload_n (i := 0) dX2_copy_95 rfl rfl ?_
                    refine Gx_iconst ⟨by decide, by decide⟩ dX2_copy_96 ?_
                    refine cl_X2_118 dX2_copy_97 rfl rfl ⟨(Nat.le_of_ble_eq_true rfl), (Nat.le_of_ble_eq_true rfl)⟩ rfl ?_
                    refine ct_X2_meets (by omega) ?_
                    refine Gx_ireturn dX2_copy_100 trivial ?_
                    unfold sCopy at k
                    (repeat' split at k) <;> first | exact k | (exfalso; omega)
          · refine Gx_aload_n (i := 0) dX2_copy_45 rfl rfl ?_
            refine Gx_iconst ⟨by decide, by decide⟩ dX2_copy_46 ?_
            refine cl_X2_118 dX2_copy_47 rfl rfl ⟨(Nat.le_of_ble_eq_true rfl), (Nat.le_of_ble_eq_true rfl)⟩ rfl ?_
            refine ct_X2_meets (by omega) ?_
            refine Gx_ireturn dX2_copy_50 trivial ?_
            unfold sCopy at k
            (repeat' split at k) <;> first | exact k | (exfalso; omega)
      · refine Gx_aload_n (i := 0) dX2_copy_21 rfl rfl ?_
        refine Gx_iconst ⟨by decide, by decide⟩ dX2_copy_22 ?_
        refine cl_X2_118 dX2_copy_23 rfl rfl ⟨(Nat.le_of_ble_eq_true rfl), (Nat.le_of_ble_eq_true rfl)⟩ rfl ?_
        refine ct_X2_meets (by omega) ?_
        refine Gx_ireturn dX2_copy_26 trivial ?_
        unfold sCopy at k
        (repeat' split at k) <;> first | exact k | (exfalso; omega)
    · refine Gx_if_ne (tgt := 16) dX2_copy_11 (by decide) (fun hz => absurd hz (by decide)) (fun _ => ?_)
      refine Gx_iconst ⟨by decide, by decide⟩ dX2_copy_14 ?_
      refine Gx_ireturn dX2_copy_15 trivial ?_
      unfold sCopy at k
      (repeat' split at k) <;> first | exact k | (exfalso; omega)
  · refine Gx_if_eq (tgt := 14) dX2_copy_4 (by decide) (fun _ => ?_) (fun hz => absurd hz (by decide))
    refine Gx_iconst ⟨by decide, by decide⟩ dX2_copy_14 ?_
    refine Gx_ireturn dX2_copy_15 trivial ?_
    unfold sCopy at k
    (repeat' split at k) <;> first | exact k | (exfalso; omega)
theorem lp_X2_mean {r n : Int} {bc bs : Nat} (hr : 0 ≤ r ∧ r ≤ 5) (hn : v 40 r = n) (hn8 : n ≤ 80) : ∀ (j : Nat) (x : Int), 0 ≤ x → x + j = n → Gx Γ mX2_mean 72 [(2, 38), (0, r), (1, gSum (fun k => v 41 (80 * r + k)) n.toNat), (9, 0), (0, n)] [] v (gHd K) t bc bs Q → Gx Γ mX2_mean 44 [(2, 38), (0, r), (1, gSum (fun k => v 41 (80 * r + k)) x.toNat), (9, 0), (0, x)] [] v (gHd K) t bc bs Q := by
  intro j
  induction j with
  | zero =>
    intro x h0 h1 k
    refine Gx_iload dX2_mean_44 rfl ?_
    refine Gx_aload_n (i := 0) dX2_mean_46 rfl rfl ?_
    refine gf_X2_13_22 dX2_mean_47 rfl rfl ?_
    refine Gx_iload_n (i := 1) dX2_mean_50 rfl rfl ?_
    refine Gx_iaload dX2_mean_51 rfl (by first | omega | (simp (disch := omega) only [w32_id]; omega)) ?_
    refine Gx_icmp_ge (tgt := 72) dX2_mean_52 (by decide) (fun c52 => ?_) (fun c52 => ?_)
    · have e : x = n := by omega
      rw [e]
      exact k
    · refine Gx_lload_n (i := 2) dX2_mean_55 rfl rfl ?_
      refine Gx_aload_n (i := 0) dX2_mean_56 rfl rfl ?_
      refine Gx_iload_n (i := 1) dX2_mean_57 rfl rfl ?_
      refine Gx_iload dX2_mean_58 rfl ?_
      refine cl_X2_122 dX2_mean_60 rfl rfl ⟨(Nat.le_of_ble_eq_true rfl), (Nat.le_of_ble_eq_true rfl)⟩ rfl ?_
      refine ct_X2_rowAt (by first | omega | (simp (disch := omega) only [w32_id]; omega)) (by first | omega | (simp (disch := omega) only [w32_id]; omega)) ?_
      refine Gx_i2l dX2_mean_63 ?_
      refine Gx_ladd dX2_mean_64 ?_
      refine Gx_lstore_n_2 dX2_mean_65 (Nat.le_of_ble_eq_true rfl) (Nat.ne_of_beq_eq_false rfl) ?_
      refine Gx_iinc_4 dX2_mean_66 (Nat.le_of_ble_eq_true rfl) (Nat.ne_of_beq_eq_false rfl) ?_
      try simp (disch := omega) only [w32_id]
      refine Gx_goto (tgt := 44) dX2_mean_69 (by decide) ?_
      exfalso
      omega
  | succ j ih =>
    intro x h0 h1 k
    refine Gx_iload dX2_mean_44 rfl ?_
    refine Gx_aload_n (i := 0) dX2_mean_46 rfl rfl ?_
    refine gf_X2_13_22 dX2_mean_47 rfl rfl ?_
    refine Gx_iload_n (i := 1) dX2_mean_50 rfl rfl ?_
    refine Gx_iaload dX2_mean_51 rfl (by first | omega | (simp (disch := omega) only [w32_id]; omega)) ?_
    refine Gx_icmp_ge (tgt := 72) dX2_mean_52 (by decide) (fun c52 => ?_) (fun c52 => ?_)
    · exfalso
      omega
    · refine Gx_lload_n (i := 2) dX2_mean_55 rfl rfl ?_
      refine Gx_aload_n (i := 0) dX2_mean_56 rfl rfl ?_
      refine Gx_iload_n (i := 1) dX2_mean_57 rfl rfl ?_
      refine Gx_iload dX2_mean_58 rfl ?_
      refine cl_X2_122 dX2_mean_60 rfl rfl ⟨(Nat.le_of_ble_eq_true rfl), (Nat.le_of_ble_eq_true rfl)⟩ rfl ?_
      refine ct_X2_rowAt (by first | omega | (simp (disch := omega) only [w32_id]; omega)) (by first | omega | (simp (disch := omega) only [w32_id]; omega)) ?_
      refine Gx_i2l dX2_mean_63 ?_
      refine Gx_ladd dX2_mean_64 ?_
      refine Gx_lstore_n_2 dX2_mean_65 (Nat.le_of_ble_eq_true rfl) (Nat.ne_of_beq_eq_false rfl) ?_
      refine Gx_iinc_4 dX2_mean_66 (Nat.le_of_ble_eq_true rfl) (Nat.ne_of_beq_eq_false rfl) ?_
      try simp (disch := omega) only [w32_id]
      refine Gx_goto (tgt := 44) dX2_mean_69 (by decide) ?_
      have e : w64 (gSum (fun k => v 41 (80 * r + k)) x.toNat + v 41 (80 * r + x)) = gSum (fun k => v 41 (80 * r + k)) (x + 1).toNat := by
        rw [show (x + 1).toNat = x.toNat + 1 by omega]
        show _ = w64 (gSum (fun k => v 41 (80 * r + k)) x.toNat + v 41 (80 * r + (x.toNat : Int)))
        rw [show ((x.toNat : Nat) : Int) = x by omega]
      rw [e]
      exact ih (x + 1) (by omega) (by omega) k
set_option maxHeartbeats 1000000 in
theorem ct_X2_mean {r : Int} (hS : oSz v) (k : Q (0, (sMean v r).1) (sMean v r).2 (gHd K) t) : Ctr Γ mX2_mean [(2, 38), (0, r)] v (gHd K) t Q := by
  refine Ctr.ofG (ls := [(2, 38), (0, r), (9, 0), (9, 0), (9, 0)]) rfl rfl rfl rfl rfl ?_
  refine Gx_iload_n (i := 1) dX2_mean_0 rfl rfl ?_
  refine cl_X2_114 dX2_mean_1 rfl ⟨(Nat.le_of_ble_eq_true rfl), (Nat.le_of_ble_eq_true rfl)⟩ rfl ?_
  refine ct_X2_isRow (fun c1 => ?_) (fun c1 => ?_)
  · refine Gx_if_ne (tgt := 9) dX2_mean_4 (by decide) (fun _ => ?_) (fun hz => absurd hz (by decide))
    have hs := hS r (by omega) (by omega)
    refine Gx_aload_n (i := 0) dX2_mean_9 rfl rfl ?_
    refine gf_X2_13_22 dX2_mean_10 rfl rfl ?_
    refine Gx_iload_n (i := 1) dX2_mean_13 rfl rfl ?_
    refine Gx_iaload dX2_mean_14 rfl (by first | omega | (simp (disch := omega) only [w32_id]; omega)) ?_
    refine Gx_if_ge (tgt := 24) dX2_mean_15 (by decide) (fun c15 => ?_) (fun c15 => ?_)
    · refine Gx_aload_n (i := 0) dX2_mean_24 rfl rfl ?_
      refine gf_X2_13_22 dX2_mean_25 rfl rfl ?_
      refine Gx_iload_n (i := 1) dX2_mean_28 rfl rfl ?_
      refine Gx_iaload dX2_mean_29 rfl (by first | omega | (simp (disch := omega) only [w32_id]; omega)) ?_
      refine Gx_if_ne (tgt := 39) dX2_mean_30 (by decide) (fun c30 => ?_) (fun c30 => ?_)
      · refine Gx_lconst0 dX2_mean_39 ?_
        refine Gx_lstore_n_2 dX2_mean_40 (Nat.le_of_ble_eq_true rfl) (Nat.ne_of_beq_eq_false rfl) ?_
        refine Gx_iconst ⟨by decide, by decide⟩ dX2_mean_41 ?_
        refine Gx_istore_4 dX2_mean_42 (Nat.le_of_ble_eq_true rfl) (Nat.ne_of_beq_eq_false rfl) ?_
        refine lp_X2_mean (n := v 40 r) (by omega) rfl (by omega) (v 40 r).toNat 0 (by omega) (by omega) ?_
        refine Gx_aload_n (i := 0) dX2_mean_72 rfl rfl ?_
        refine Gx_lload_n (i := 2) dX2_mean_73 rfl rfl ?_
        refine Gx_aload_n (i := 0) dX2_mean_74 rfl rfl ?_
        refine gf_X2_13_22 dX2_mean_75 rfl rfl ?_
        refine Gx_iload_n (i := 1) dX2_mean_78 rfl rfl ?_
        refine Gx_iaload dX2_mean_79 rfl (by first | omega | (simp (disch := omega) only [w32_id]; omega)) ?_
        refine Gx_i2l dX2_mean_80 ?_
        refine Gx_ldiv dX2_mean_81 (by first | omega | (simp (disch := omega) only [w32_id]; omega)) ?_
        refine Gx_l2i dX2_mean_82 ?_
        refine Gx_iconst ⟨by decide, by decide⟩ dX2_mean_83 ?_
        refine cl_X2_126 dX2_mean_84 rfl rfl ⟨(Nat.le_of_ble_eq_true rfl), (Nat.le_of_ble_eq_true rfl)⟩ rfl ?_
        refine ct_X2_tells ?_
        refine Gx_ireturn dX2_mean_87 trivial ?_
        unfold sMean at k
        (repeat' split at k) <;> first | exact k | (exfalso; omega)
      · refine Gx_aload_n (i := 0) dX2_mean_33 rfl rfl ?_
        refine Gx_iconst ⟨by decide, by decide⟩ dX2_mean_34 ?_
        refine cl_X2_118 dX2_mean_35 rfl rfl ⟨(Nat.le_of_ble_eq_true rfl), (Nat.le_of_ble_eq_true rfl)⟩ rfl ?_
        refine ct_X2_meets (by omega) ?_
        refine Gx_ireturn dX2_mean_38 trivial ?_
        unfold sMean at k
        (repeat' split at k) <;> first | exact k | (exfalso; omega)
    · refine Gx_aload_n (i := 0) dX2_mean_18 rfl rfl ?_
      refine Gx_iconst ⟨by decide, by decide⟩ dX2_mean_19 ?_
      refine cl_X2_118 dX2_mean_20 rfl rfl ⟨(Nat.le_of_ble_eq_true rfl), (Nat.le_of_ble_eq_true rfl)⟩ rfl ?_
      refine ct_X2_meets (by omega) ?_
      refine Gx_ireturn dX2_mean_23 trivial ?_
      unfold sMean at k
      (repeat' split at k) <;> first | exact k | (exfalso; omega)
  · refine Gx_if_ne (tgt := 9) dX2_mean_4 (by decide) (fun hz => absurd hz (by decide)) (fun _ => ?_)
    refine Gx_iconst ⟨by decide, by decide⟩ dX2_mean_7 ?_
    refine Gx_ireturn dX2_mean_8 trivial ?_
    unfold sMean at k
    (repeat' split at k) <;> first | exact k | (exfalso; omega)
theorem ct_X2_byteAt {r i : Int} (hr : 0 ≤ r ∧ r ≤ 3) (hi : 0 ≤ i) (hs : v 43 r ≤ 80) (k : Q (0, sByte v r i) v (gHd K) t) : Ctr Γ mX2_byteAt [(2, 38), (0, r), (0, i)] v (gHd K) t Q := by
  refine Ctr.ofG (ls := [(2, 38), (0, r), (0, i)]) rfl rfl rfl rfl rfl ?_
  refine Gx_iload_n (i := 2) dX2_byteAt_0 rfl rfl ?_
  refine Gx_aload_n (i := 0) dX2_byteAt_1 rfl rfl ?_
  refine gf_X2_22_22 dX2_byteAt_2 rfl rfl ?_
  refine Gx_iload_n (i := 1) dX2_byteAt_5 rfl rfl ?_
  refine Gx_iaload dX2_byteAt_6 rfl (by first | omega | (simp (disch := omega) only [w32_id]; omega)) ?_
  refine Gx_icmp_ge (tgt := 24) dX2_byteAt_7 (by decide) (fun c7 => ?_) (fun c7 => ?_)
  · refine Gx_iconst ⟨by decide, by decide⟩ dX2_byteAt_24 ?_
    refine Gx_ireturn dX2_byteAt_25 trivial ?_
    unfold sByte at k
    split at k <;> first | exact k | (exfalso; omega)
  · refine Gx_aload_n (i := 0) dX2_byteAt_10 rfl rfl ?_
    refine gf_X2_25_22 dX2_byteAt_11 rfl rfl ?_
    refine Gx_bipush dX2_byteAt_14 ⟨by decide, by decide⟩ ?_
    refine Gx_iload_n (i := 1) dX2_byteAt_16 rfl rfl ?_
    refine Gx_imul dX2_byteAt_17 ?_
    try simp (disch := omega) only [w32_id]
    refine Gx_iload_n (i := 2) dX2_byteAt_18 rfl rfl ?_
    refine Gx_iadd dX2_byteAt_19 ?_
    try simp (disch := omega) only [w32_id]
    refine Gx_baload dX2_byteAt_20 rfl (by first | omega | (simp (disch := omega) only [w32_id]; omega)) ?_
    refine Gx_goto (tgt := 25) dX2_byteAt_21 (by decide) ?_
    refine Gx_ireturn dX2_byteAt_25 trivial ?_
    unfold sByte at k
    split at k <;> first | exact k | (exfalso; omega)
theorem lp_X2_fraction {u l a : Int} {bc bs : Nat} : ∀ (j : Nat) (x y z : Int) (kz : Nat), y.natAbs ≤ j → Gx Γ mX2_fraction 31 [(2, 38), (1, u), (9, 0), (1, l), (9, 0), (0, a), (1, gG (j + 1) x y), (9, 0), (9, 0), (9, 0), (9, 0), (9, 0)] [] v (gHd K) t bc bs Q → Gx Γ mX2_fraction 6 [(2, 38), (1, u), (9, 0), (1, l), (9, 0), (0, a), (1, x), (9, 0), (1, y), (9, 0), (kz, z), (9, 0)] [] v (gHd K) t bc bs Q := by
  intro j
  induction j with
  | zero =>
    intro x y z kz h0 k
    refine Gx_lload dX2_fraction_6 rfl ?_
    refine Gx_lconst0 dX2_fraction_8 ?_
    try simp (disch := omega) only [w64_id]
    refine Gx_lcmpif_eq (tgt := 31) dX2_fraction_9 dX2_fraction_10 (by decide) (fun c9 => ?_) (fun c9 => ?_)
    · refine Gx_dead_8 ?_
      refine Gx_dead_10 ?_
      have e : gG 1 x y = x := by unfold gG; rw [if_pos (by omega)]
      rw [e] at k
      exact k
    · refine Gx_lload dX2_fraction_13 rfl ?_
      refine Gx_lload dX2_fraction_15 rfl ?_
      refine Gx_lrem dX2_fraction_17 (by first | omega | (simp (disch := omega) only [w32_id]; omega)) ?_
      refine Gx_lstore_10 dX2_fraction_18 (Nat.le_of_ble_eq_true rfl) (Nat.ne_of_beq_eq_false rfl) ?_
      refine Gx_lload dX2_fraction_20 rfl ?_
      refine Gx_lstore_6 dX2_fraction_22 (Nat.le_of_ble_eq_true rfl) (Nat.ne_of_beq_eq_false rfl) ?_
      refine Gx_lload dX2_fraction_24 rfl ?_
      refine Gx_lstore_8 dX2_fraction_26 (Nat.le_of_ble_eq_true rfl) (Nat.ne_of_beq_eq_false rfl) ?_
      refine Gx_goto (tgt := 6) dX2_fraction_28 (by decide) ?_
      exfalso
      omega
  | succ j ih =>
    intro x y z kz h0 k
    refine Gx_lload dX2_fraction_6 rfl ?_
    refine Gx_lconst0 dX2_fraction_8 ?_
    try simp (disch := omega) only [w64_id]
    refine Gx_lcmpif_eq (tgt := 31) dX2_fraction_9 dX2_fraction_10 (by decide) (fun c9 => ?_) (fun c9 => ?_)
    · refine Gx_dead_8 ?_
      refine Gx_dead_10 ?_
      have e : gG (j + 1 + 1) x y = x := by unfold gG; rw [if_pos (by omega)]
      rw [e] at k
      exact k
    · refine Gx_lload dX2_fraction_13 rfl ?_
      refine Gx_lload dX2_fraction_15 rfl ?_
      refine Gx_lrem dX2_fraction_17 (by first | omega | (simp (disch := omega) only [w32_id]; omega)) ?_
      refine Gx_lstore_10 dX2_fraction_18 (Nat.le_of_ble_eq_true rfl) (Nat.ne_of_beq_eq_false rfl) ?_
      refine Gx_lload dX2_fraction_20 rfl ?_
      refine Gx_lstore_6 dX2_fraction_22 (Nat.le_of_ble_eq_true rfl) (Nat.ne_of_beq_eq_false rfl) ?_
      refine Gx_lload dX2_fraction_24 rfl ?_
      refine Gx_lstore_8 dX2_fraction_26 (Nat.le_of_ble_eq_true rfl) (Nat.ne_of_beq_eq_false rfl) ?_
      refine Gx_goto (tgt := 6) dX2_fraction_28 (by decide) ?_
      have e : gG (j + 1 + 1) x y = gG (j + 1) y (x.tmod y) := by
        show (if y = 0 then x else gG (j + 1) y (x.tmod y)) = _
        rw [if_neg (by omega)]
      rw [e] at k
      have h5 : (x.tmod y).natAbs < y.natAbs := by rw [Int.natAbs_tmod]; exact Nat.mod_lt _ (by omega)
      exact ih y (x.tmod y) (x.tmod y) 1 (by omega) k
theorem ct_X2_fraction {u l a : Int} (hl : l ≠ 0) (k : Q (0, a) (sFrac v u l) (gHd K) t) : Ctr Γ mX2_fraction [(2, 38), (1, u), (1, l), (0, a)] v (gHd K) t Q := by
  refine Ctr.ofG (ls := [(2, 38), (1, u), (9, 0), (1, l), (9, 0), (0, a), (9, 0), (9, 0), (9, 0), (9, 0), (9, 0), (9, 0)]) rfl rfl rfl rfl rfl ?_
  refine Gx_lload_n (i := 1) dX2_fraction_0 rfl rfl ?_
  refine Gx_lstore_6 dX2_fraction_1 (Nat.le_of_ble_eq_true rfl) (Nat.ne_of_beq_eq_false rfl) ?_
  refine Gx_lload_n (i := 3) dX2_fraction_3 rfl rfl ?_
  refine Gx_lstore_8 dX2_fraction_4 (Nat.le_of_ble_eq_true rfl) (Nat.ne_of_beq_eq_false rfl) ?_
  refine lp_X2_fraction l.natAbs u l 0 9 (Nat.le_refl _) ?_
  have hg := gGcd_ne (u := u) hl
  show Gx Γ mX2_fraction 31 [(2, 38), (1, u), (9, 0), (1, l), (9, 0), (0, a), (1, gGcd u l), (9, 0), (9, 0), (9, 0), (9, 0), (9, 0)] [] v (gHd K) t 0 0 Q
  refine Gx_aload_n (i := 0) dX2_fraction_31 rfl rfl ?_
  refine Gx_lload_n (i := 1) dX2_fraction_32 rfl rfl ?_
  refine Gx_lload dX2_fraction_33 rfl ?_
  refine Gx_ldiv dX2_fraction_35 (by exact hg) ?_
  refine pf_X2_111_22 dX2_fraction_36 rfl rfl ?_
  refine Gx_aload_n (i := 0) dX2_fraction_39 rfl rfl ?_
  refine Gx_lload_n (i := 3) dX2_fraction_40 rfl rfl ?_
  refine Gx_lload dX2_fraction_41 rfl ?_
  refine Gx_ldiv dX2_fraction_43 (by exact hg) ?_
  refine pf_X2_93_22 dX2_fraction_44 rfl rfl ?_
  refine Gx_iload dX2_fraction_47 rfl ?_
  refine Gx_ireturn dX2_fraction_49 trivial ?_
  exact k
end
