/-! AcornYearsModel: isImage -/
section
variable {Γ : gC} {v : gM} {K : gH} {t : Nat} {Q : gQ}
def pAll (q : Int → Bool) : Nat → Bool
  | 0 => true
  | n + 1 => pAll q n && q (n : Int)
theorem pAll_s {q : Int → Bool} {i : Int} (h : 0 ≤ i) : pAll q (i + 1).toNat = (pAll q i.toNat && q i) := by
  obtain ⟨x, rfl⟩ : ∃ x : Nat, i = (x : Int) := ⟨i.toNat, by omega⟩
  rw [show ((x : Int) + 1).toNat = x + 1 by omega, show ((x : Int)).toNat = x by omega]
  rfl
theorem pAll_dead {q : Int → Bool} {i : Nat} (h : pAll q i = false) : ∀ j, i ≤ j → pAll q j = false := by
  intro j
  induction j with
  | zero => intro hj; rw [show i = 0 by omega] at h; exact h
  | succ j ih =>
    intro hj
    by_cases e : i = j + 1
    · rw [← e]; exact h
    · have := ih (by omega)
      unfold pAll
      rw [this, Bool.false_and]
/-- an image's head: the year, the eaters -/
def pI0 (nE : Int) (f : Int → Int) : Prop := (0 ≤ f 0 ∧ f 0 ≤ 9999) ∧ ((0 < nE ∧ 0 ≤ f 1 ∧ f 1 ≤ 200) ∨ (nE ≤ 0 ∧ f 1 = -9)) ∧ ((1 < nE ∧ 0 ≤ f 2 ∧ f 2 ≤ 200) ∨ (nE ≤ 1 ∧ f 2 = -9))
/-- an image's tree -/
def pIt (f : Int → Int) (i : Int) : Bool := decide ((0 ≤ f (3 + 3 * i) ∧ f (3 + 3 * i) ≤ 60) ∧ (0 ≤ f (4 + 3 * i) ∧ f (4 + 3 * i) ≤ f 0) ∧ ((f (4 + 3 * i) = 0 ∧ f (5 + 3 * i) = -9) ∨ (f (4 + 3 * i) ≠ 0 ∧ 1 ≤ f (5 + 3 * i) ∧ f (5 + 3 * i) ≤ f 0)))
def pImage (nE n : Int) (f : Int → Int) : Prop := pI0 nE f ∧ pAll (pIt f) n.toNat = true
abbrev mRw (v : gM) (r k : Int) : Int := v 41 (80 * r + k)

set_option maxHeartbeats 4000000 in
theorem lp_X2_isImage {r y n : Int} {P : Prop} {bc bs : Nat} (hr : 0 ≤ r ∧ r ≤ 5) (hn : v 38 33 = n) (hn24 : n ≤ 24) (hy : y = mRw v r 0) (k1 : P → pAll (pIt (mRw v r)) n.toNat = true → Q (0, 1) v (gHd K) t) (k0 : ¬ (P ∧ pAll (pIt (mRw v r)) n.toNat = true) → Q (0, 0) v (gHd K) t) : ∀ (j : Nat) (i gd : Int) (z5 z6 : gV), 0 ≤ i → i + j = n → (gd = 1 ∧ P ∧ pAll (pIt (mRw v r)) i.toNat = true) ∨ (gd = 0 ∧ ¬ (P ∧ pAll (pIt (mRw v r)) n.toNat = true)) → Gx Γ mX2_isImage 86 [(2, 38), (0, r), (0, y), (0, gd), (0, i), z5, z6] [] v (gHd K) t bc bs Q := by
  intro j
  induction j with
  | zero =>
    intro i gd z5 z6 h0 h1 hg
    refine Gx_iload dX2_isImage_86 rfl ?_
    refine Gx_aload_n (i := 0) dX2_isImage_88 rfl rfl ?_
    refine gf_X2_203_22 dX2_isImage_89 rfl rfl ?_
    refine Gx_icmp_ge (tgt := 192) dX2_isImage_92 (by decide) (fun c92 => ?_) (fun c92 => ?_)
    · refine Gx_iload_n (i := 3) dX2_isImage_192 rfl rfl ?_
      refine Gx_ireturn dX2_isImage_193 (show gd = 0 ∨ gd = 1 by rcases hg with ⟨q1, _⟩ | ⟨q1, _⟩ <;> omega) ?_
      rcases hg with ⟨q1, q2, q3⟩ | ⟨q1, q2⟩
      · first
          | (exfalso; omega)
          | (have e0 : i = n := by omega
             rw [e0] at q3
             rw [q1]
             exact k1 q2 q3)
      · rw [q1]
        exact k0 q2
    · exfalso
      omega
  | succ j ih =>
    intro i gd z5 z6 h0 h1 hg
    refine Gx_iload dX2_isImage_86 rfl ?_
    refine Gx_aload_n (i := 0) dX2_isImage_88 rfl rfl ?_
    refine gf_X2_203_22 dX2_isImage_89 rfl rfl ?_
    refine Gx_icmp_ge (tgt := 192) dX2_isImage_92 (by decide) (fun c92 => ?_) (fun c92 => ?_)
    · refine Gx_iload_n (i := 3) dX2_isImage_192 rfl rfl ?_
      refine Gx_ireturn dX2_isImage_193 (show gd = 0 ∨ gd = 1 by rcases hg with ⟨q1, _⟩ | ⟨q1, _⟩ <;> omega) ?_
      first
        | (exfalso; omega)
        | (rcases hg with ⟨q1, q2, q3⟩ | ⟨q1, q2⟩
           · first
               | (exfalso; omega)
               | (have e0 : i = n := by omega
                  rw [e0] at q3
                  rw [q1]
                  exact k1 q2 q3)
           · rw [q1]
             exact k0 q2)
    · refine Gx_iload_n (i := 3) dX2_isImage_95 rfl rfl ?_
      refine Gx_if_eq (tgt := 192) dX2_isImage_96 (by decide) (fun c96 => ?_) (fun c96 => ?_)
      · refine Gx_iload_n (i := 3) dX2_isImage_192 rfl rfl ?_
        refine Gx_ireturn dX2_isImage_193 (show gd = 0 ∨ gd = 1 by rcases hg with ⟨q1, _⟩ | ⟨q1, _⟩ <;> omega) ?_
        first
          | (exfalso; omega)
          | (rcases hg with ⟨q1, q2, q3⟩ | ⟨q1, q2⟩
             · first
                 | (exfalso; omega)
                 | (have e0 : i = n := by omega
                    rw [e0] at q3
                    rw [q1]
                    exact k1 q2 q3)
             · rw [q1]
               exact k0 q2)
      · have hy9 : y = v 41 (80 * r + 0) := hy
        refine Gx_aload_n (i := 0) dX2_isImage_99 rfl rfl ?_
        refine Gx_iload_n (i := 1) dX2_isImage_100 rfl rfl ?_
        refine Gx_iconst ⟨by decide, by decide⟩ dX2_isImage_101 ?_
        refine Gx_iconst ⟨by decide, by decide⟩ dX2_isImage_102 ?_
        refine Gx_iload dX2_isImage_103 rfl ?_
        refine Gx_imul dX2_isImage_105 ?_
        try simp (disch := omega) only [w32_id]
        refine Gx_iadd dX2_isImage_106 ?_
        try simp (disch := omega) only [w32_id]
        refine cl_X2_122 dX2_isImage_107 rfl rfl ⟨(Nat.le_of_ble_eq_true rfl), (Nat.le_of_ble_eq_true rfl)⟩ rfl ?_
        refine ct_X2_rowAt (by omega) (by omega) ?_
        refine Gx_istore_5 dX2_isImage_110 (Nat.le_of_ble_eq_true rfl) (Nat.ne_of_beq_eq_false rfl) ?_
        refine Gx_aload_n (i := 0) dX2_isImage_112 rfl rfl ?_
        refine Gx_iload_n (i := 1) dX2_isImage_113 rfl rfl ?_
        refine Gx_iconst ⟨by decide, by decide⟩ dX2_isImage_114 ?_
        refine Gx_iconst ⟨by decide, by decide⟩ dX2_isImage_115 ?_
        refine Gx_iload dX2_isImage_116 rfl ?_
        refine Gx_imul dX2_isImage_118 ?_
        try simp (disch := omega) only [w32_id]
        refine Gx_iadd dX2_isImage_119 ?_
        try simp (disch := omega) only [w32_id]
        refine cl_X2_122 dX2_isImage_120 rfl rfl ⟨(Nat.le_of_ble_eq_true rfl), (Nat.le_of_ble_eq_true rfl)⟩ rfl ?_
        refine ct_X2_rowAt (by omega) (by omega) ?_
        refine Gx_istore_6 dX2_isImage_123 (Nat.le_of_ble_eq_true rfl) (Nat.ne_of_beq_eq_false rfl) ?_
        refine Gx_aload_n (i := 0) dX2_isImage_125 rfl rfl ?_
        refine Gx_iload_n (i := 1) dX2_isImage_126 rfl rfl ?_
        refine Gx_iconst ⟨by decide, by decide⟩ dX2_isImage_127 ?_
        refine Gx_iconst ⟨by decide, by decide⟩ dX2_isImage_128 ?_
        refine Gx_iload dX2_isImage_129 rfl ?_
        refine Gx_imul dX2_isImage_131 ?_
        try simp (disch := omega) only [w32_id]
        refine Gx_iadd dX2_isImage_132 ?_
        try simp (disch := omega) only [w32_id]
        refine cl_X2_122 dX2_isImage_133 rfl rfl ⟨(Nat.le_of_ble_eq_true rfl), (Nat.le_of_ble_eq_true rfl)⟩ rfl ?_
        refine ct_X2_rowAt (by omega) (by omega) ?_
        refine Gx_iconst ⟨by decide, by decide⟩ dX2_isImage_136 ?_
        refine Gx_bipush dX2_isImage_137 ⟨by decide, by decide⟩ ?_
        refine cl_X2_104 dX2_isImage_139 rfl ⟨(Nat.le_of_ble_eq_true rfl), (Nat.le_of_ble_eq_true rfl)⟩ rfl ?_
        refine ct_X2_in (fun c139 => ?_) (fun c139 => ?_)
        · refine Gx_if_eq (tgt := 184) dX2_isImage_142 (by decide) (fun hz => absurd hz (by decide)) (fun _ => ?_)
          refine Gx_iload dX2_isImage_145 rfl ?_
          refine Gx_iconst ⟨by decide, by decide⟩ dX2_isImage_147 ?_
          refine Gx_iload_n (i := 2) dX2_isImage_148 rfl rfl ?_
          refine cl_X2_104 dX2_isImage_149 rfl ⟨(Nat.le_of_ble_eq_true rfl), (Nat.le_of_ble_eq_true rfl)⟩ rfl ?_
          refine ct_X2_in (fun c149 => ?_) (fun c149 => ?_)
          · refine Gx_if_eq (tgt := 184) dX2_isImage_152 (by decide) (fun hz => absurd hz (by decide)) (fun _ => ?_)
            refine Gx_iload dX2_isImage_155 rfl ?_
            refine Gx_if_ne (tgt := 170) dX2_isImage_157 (by decide) (fun c157 => ?_) (fun c157 => ?_)
            · refine Gx_iload dX2_isImage_170 rfl ?_
              refine Gx_iconst ⟨by decide, by decide⟩ dX2_isImage_172 ?_
              refine Gx_iload_n (i := 2) dX2_isImage_173 rfl rfl ?_
              refine cl_X2_104 dX2_isImage_174 rfl ⟨(Nat.le_of_ble_eq_true rfl), (Nat.le_of_ble_eq_true rfl)⟩ rfl ?_
              refine ct_X2_in (fun c174 => ?_) (fun c174 => ?_)
              · refine Gx_if_eq (tgt := 184) dX2_isImage_177 (by decide) (fun hz => absurd hz (by decide)) (fun _ => ?_)
                refine Gx_iconst ⟨by decide, by decide⟩ dX2_isImage_180 ?_
                refine Gx_goto (tgt := 185) dX2_isImage_181 (by decide) ?_
                refine Gx_istore_n_3 dX2_isImage_185 (Nat.le_of_ble_eq_true rfl) (Nat.ne_of_beq_eq_false rfl) ?_
                refine Gx_iinc_4 dX2_isImage_186 (Nat.le_of_ble_eq_true rfl) (Nat.ne_of_beq_eq_false rfl) ?_
                try simp (disch := omega) only [w32_id]
                refine Gx_goto (tgt := 86) dX2_isImage_189 (by decide) ?_
                have hx := pAll_s (q := pIt (mRw v r)) h0
                have hgd : gd = 1 := by rcases hg with ⟨q1, _⟩ | ⟨q1, _⟩ <;> omega
                have hP : P ∧ pAll (pIt (mRw v r)) i.toNat = true := by
                  rcases hg with ⟨q1, q2⟩ | ⟨q1, _⟩
                  · exact q2
                  · exfalso; omega
                first
                  | (have hb : pIt (mRw v r) i = true := by
                       unfold pIt mRw
                       rw [decide_eq_true_iff]
                       omega
                     refine ih (i + 1) 1 _ _ (by omega) (by omega) (Or.inl ⟨rfl, hP.1, ?_⟩)
                     rw [hx, hP.2, hb]
                     rfl)
                  | (have hb : pIt (mRw v r) i = false := by
                       unfold pIt mRw
                       rw [decide_eq_false_iff_not]
                       omega
                     refine ih (i + 1) 0 _ _ (by omega) (by omega) (Or.inr ⟨rfl, fun hz => ?_⟩)
                     have hd := pAll_dead (q := pIt (mRw v r)) (i := (i + 1).toNat) (by rw [hx, hb, Bool.and_false]) n.toNat (by omega)
                     rw [hd] at hz
                     exact absurd hz.2 (by decide))
              · refine Gx_if_eq (tgt := 184) dX2_isImage_177 (by decide) (fun _ => ?_) (fun hz => absurd hz (by decide))
                refine Gx_iconst ⟨by decide, by decide⟩ dX2_isImage_184 ?_
                refine Gx_istore_n_3 dX2_isImage_185 (Nat.le_of_ble_eq_true rfl) (Nat.ne_of_beq_eq_false rfl) ?_
                refine Gx_iinc_4 dX2_isImage_186 (Nat.le_of_ble_eq_true rfl) (Nat.ne_of_beq_eq_false rfl) ?_
                try simp (disch := omega) only [w32_id]
                refine Gx_goto (tgt := 86) dX2_isImage_189 (by decide) ?_
                have hx := pAll_s (q := pIt (mRw v r)) h0
                have hgd : gd = 1 := by rcases hg with ⟨q1, _⟩ | ⟨q1, _⟩ <;> omega
                have hP : P ∧ pAll (pIt (mRw v r)) i.toNat = true := by
                  rcases hg with ⟨q1, q2⟩ | ⟨q1, _⟩
                  · exact q2
                  · exfalso; omega
                first
                  | (have hb : pIt (mRw v r) i = true := by
                       unfold pIt mRw
                       rw [decide_eq_true_iff]
                       omega
                     refine ih (i + 1) 1 _ _ (by omega) (by omega) (Or.inl ⟨rfl, hP.1, ?_⟩)
                     rw [hx, hP.2, hb]
                     rfl)
                  | (have hb : pIt (mRw v r) i = false := by
                       unfold pIt mRw
                       rw [decide_eq_false_iff_not]
                       omega
                     refine ih (i + 1) 0 _ _ (by omega) (by omega) (Or.inr ⟨rfl, fun hz => ?_⟩)
                     have hd := pAll_dead (q := pIt (mRw v r)) (i := (i + 1).toNat) (by rw [hx, hb, Bool.and_false]) n.toNat (by omega)
                     rw [hd] at hz
                     exact absurd hz.2 (by decide))
            · refine Gx_iload dX2_isImage_160 rfl ?_
              refine Gx_bipush dX2_isImage_162 ⟨by decide, by decide⟩ ?_
              refine Gx_icmp_ne (tgt := 184) dX2_isImage_164 (by decide) (fun c164 => ?_) (fun c164 => ?_)
              · refine Gx_iconst ⟨by decide, by decide⟩ dX2_isImage_184 ?_
                refine Gx_istore_n_3 dX2_isImage_185 (Nat.le_of_ble_eq_true rfl) (Nat.ne_of_beq_eq_false rfl) ?_
                refine Gx_iinc_4 dX2_isImage_186 (Nat.le_of_ble_eq_true rfl) (Nat.ne_of_beq_eq_false rfl) ?_
                try simp (disch := omega) only [w32_id]
                refine Gx_goto (tgt := 86) dX2_isImage_189 (by decide) ?_
                have hx := pAll_s (q := pIt (mRw v r)) h0
                have hgd : gd = 1 := by rcases hg with ⟨q1, _⟩ | ⟨q1, _⟩ <;> omega
                have hP : P ∧ pAll (pIt (mRw v r)) i.toNat = true := by
                  rcases hg with ⟨q1, q2⟩ | ⟨q1, _⟩
                  · exact q2
                  · exfalso; omega
                first
                  | (have hb : pIt (mRw v r) i = true := by
                       unfold pIt mRw
                       rw [decide_eq_true_iff]
                       omega
                     refine ih (i + 1) 1 _ _ (by omega) (by omega) (Or.inl ⟨rfl, hP.1, ?_⟩)
                     rw [hx, hP.2, hb]
                     rfl)
                  | (have hb : pIt (mRw v r) i = false := by
                       unfold pIt mRw
                       rw [decide_eq_false_iff_not]
                       omega
                     refine ih (i + 1) 0 _ _ (by omega) (by omega) (Or.inr ⟨rfl, fun hz => ?_⟩)
                     have hd := pAll_dead (q := pIt (mRw v r)) (i := (i + 1).toNat) (by rw [hx, hb, Bool.and_false]) n.toNat (by omega)
                     rw [hd] at hz
                     exact absurd hz.2 (by decide))
              · refine Gx_goto (tgt := 180) dX2_isImage_167 (by decide) ?_
                refine Gx_iconst ⟨by decide, by decide⟩ dX2_isImage_180 ?_
                refine Gx_goto (tgt := 185) dX2_isImage_181 (by decide) ?_
                refine Gx_istore_n_3 dX2_isImage_185 (Nat.le_of_ble_eq_true rfl) (Nat.ne_of_beq_eq_false rfl) ?_
                refine Gx_iinc_4 dX2_isImage_186 (Nat.le_of_ble_eq_true rfl) (Nat.ne_of_beq_eq_false rfl) ?_
                try simp (disch := omega) only [w32_id]
                refine Gx_goto (tgt := 86) dX2_isImage_189 (by decide) ?_
                have hx := pAll_s (q := pIt (mRw v r)) h0
                have hgd : gd = 1 := by rcases hg with ⟨q1, _⟩ | ⟨q1, _⟩ <;> omega
                have hP : P ∧ pAll (pIt (mRw v r)) i.toNat = true := by
                  rcases hg with ⟨q1, q2⟩ | ⟨q1, _⟩
                  · exact q2
                  · exfalso; omega
                first
                  | (have hb : pIt (mRw v r) i = true := by
                       unfold pIt mRw
                       rw [decide_eq_true_iff]
                       omega
                     refine ih (i + 1) 1 _ _ (by omega) (by omega) (Or.inl ⟨rfl, hP.1, ?_⟩)
                     rw [hx, hP.2, hb]
                     rfl)
                  | (have hb : pIt (mRw v r) i = false := by
                       unfold pIt mRw
                       rw [decide_eq_false_iff_not]
                       omega
                     refine ih (i + 1) 0 _ _ (by omega) (by omega) (Or.inr ⟨rfl, fun hz => ?_⟩)
                     have hd := pAll_dead (q := pIt (mRw v r)) (i := (i + 1).toNat) (by rw [hx, hb, Bool.and_false]) n.toNat (by omega)
                     rw [hd] at hz
                     exact absurd hz.2 (by decide))
          · refine Gx_if_eq (tgt := 184) dX2_isImage_152 (by decide) (fun _ => ?_) (fun hz => absurd hz (by decide))
            refine Gx_iconst ⟨by decide, by decide⟩ dX2_isImage_184 ?_
            refine Gx_istore_n_3 dX2_isImage_185 (Nat.le_of_ble_eq_true rfl) (Nat.ne_of_beq_eq_false rfl) ?_
            refine Gx_iinc_4 dX2_isImage_186 (Nat.le_of_ble_eq_true rfl) (Nat.ne_of_beq_eq_false rfl) ?_
            try simp (disch := omega) only [w32_id]
            refine Gx_goto (tgt := 86) dX2_isImage_189 (by decide) ?_
            have hx := pAll_s (q := pIt (mRw v r)) h0
            have hgd : gd = 1 := by rcases hg with ⟨q1, _⟩ | ⟨q1, _⟩ <;> omega
            have hP : P ∧ pAll (pIt (mRw v r)) i.toNat = true := by
              rcases hg with ⟨q1, q2⟩ | ⟨q1, _⟩
              · exact q2
              · exfalso; omega
            first
              | (have hb : pIt (mRw v r) i = true := by
                   unfold pIt mRw
                   rw [decide_eq_true_iff]
                   omega
                 refine ih (i + 1) 1 _ _ (by omega) (by omega) (Or.inl ⟨rfl, hP.1, ?_⟩)
                 rw [hx, hP.2, hb]
                 rfl)
              | (have hb : pIt (mRw v r) i = false := by
                   unfold pIt mRw
                   rw [decide_eq_false_iff_not]
                   omega
                 refine ih (i + 1) 0 _ _ (by omega) (by omega) (Or.inr ⟨rfl, fun hz => ?_⟩)
                 have hd := pAll_dead (q := pIt (mRw v r)) (i := (i + 1).toNat) (by rw [hx, hb, Bool.and_false]) n.toNat (by omega)
                 rw [hd] at hz
                 exact absurd hz.2 (by decide))
        · refine Gx_if_eq (tgt := 184) dX2_isImage_142 (by decide) (fun _ => ?_) (fun hz => absurd hz (by decide))
          refine Gx_iconst ⟨by decide, by decide⟩ dX2_isImage_184 ?_
          refine Gx_istore_n_3 dX2_isImage_185 (Nat.le_of_ble_eq_true rfl) (Nat.ne_of_beq_eq_false rfl) ?_
          refine Gx_iinc_4 dX2_isImage_186 (Nat.le_of_ble_eq_true rfl) (Nat.ne_of_beq_eq_false rfl) ?_
          try simp (disch := omega) only [w32_id]
          refine Gx_goto (tgt := 86) dX2_isImage_189 (by decide) ?_
          have hx := pAll_s (q := pIt (mRw v r)) h0
          have hgd : gd = 1 := by rcases hg with ⟨q1, _⟩ | ⟨q1, _⟩ <;> omega
          have hP : P ∧ pAll (pIt (mRw v r)) i.toNat = true := by
            rcases hg with ⟨q1, q2⟩ | ⟨q1, _⟩
            · exact q2
            · exfalso; omega
          first
            | (have hb : pIt (mRw v r) i = true := by
                 unfold pIt mRw
                 rw [decide_eq_true_iff]
                 omega
               refine ih (i + 1) 1 _ _ (by omega) (by omega) (Or.inl ⟨rfl, hP.1, ?_⟩)
               rw [hx, hP.2, hb]
               rfl)
            | (have hb : pIt (mRw v r) i = false := by
                 unfold pIt mRw
                 rw [decide_eq_false_iff_not]
                 omega
               refine ih (i + 1) 0 _ _ (by omega) (by omega) (Or.inr ⟨rfl, fun hz => ?_⟩)
               have hd := pAll_dead (q := pIt (mRw v r)) (i := (i + 1).toNat) (by rw [hx, hb, Bool.and_false]) n.toNat (by omega)
               rw [hd] at hz
               exact absurd hz.2 (by decide))
set_option maxHeartbeats 4000000 in
theorem ct_X2_isImage {r : Int} (hr : 0 ≤ r ∧ r ≤ 5) (h33 : 0 ≤ v 38 33 ∧ v 38 33 ≤ 24) (k1 : pImage (v 38 22) (v 38 33) (mRw v r) → Q (0, 1) v (gHd K) t) (k0 : ¬ pImage (v 38 22) (v 38 33) (mRw v r) → Q (0, 0) v (gHd K) t) : Ctr Γ mX2_isImage [(2, 38), (0, r)] v (gHd K) t Q := by
  refine Ctr.ofG (ls := [(2, 38), (0, r), (9, 0), (9, 0), (9, 0), (9, 0), (9, 0)]) rfl rfl rfl rfl rfl ?_
  refine Gx_aload_n (i := 0) dX2_isImage_0 rfl rfl ?_
  refine Gx_iload_n (i := 1) dX2_isImage_1 rfl rfl ?_
  refine Gx_iconst ⟨by decide, by decide⟩ dX2_isImage_2 ?_
  refine cl_X2_122 dX2_isImage_3 rfl rfl ⟨(Nat.le_of_ble_eq_true rfl), (Nat.le_of_ble_eq_true rfl)⟩ rfl ?_
  refine ct_X2_rowAt (by omega) (by omega) ?_
  refine Gx_istore_n_2 dX2_isImage_6 (Nat.le_of_ble_eq_true rfl) (Nat.ne_of_beq_eq_false rfl) ?_
  refine Gx_iload_n (i := 2) dX2_isImage_7 rfl rfl ?_
  refine Gx_iconst ⟨by decide, by decide⟩ dX2_isImage_8 ?_
  refine Gx_sipush dX2_isImage_9 ⟨by decide, by decide⟩ ?_
  refine cl_X2_104 dX2_isImage_12 rfl ⟨(Nat.le_of_ble_eq_true rfl), (Nat.le_of_ble_eq_true rfl)⟩ rfl ?_
  refine ct_X2_in (fun c12 => ?_) (fun c12 => ?_)
  · refine Gx_istore_n_3 dX2_isImage_15 (Nat.le_of_ble_eq_true rfl) (Nat.ne_of_beq_eq_false rfl) ?_
    refine Gx_iconst ⟨by decide, by decide⟩ dX2_isImage_16 ?_
    refine Gx_istore_4 dX2_isImage_17 (Nat.le_of_ble_eq_true rfl) (Nat.ne_of_beq_eq_false rfl) ?_
    refine Gx_iload dX2_isImage_19 rfl ?_
    refine Gx_iconst ⟨by decide, by decide⟩ dX2_isImage_21 ?_
    refine Gx_icmp_ge (tgt := 83) dX2_isImage_22 (by decide) (fun hz => absurd hz (by decide)) (fun _ => ?_)
    refine Gx_aload_n (i := 0) dX2_isImage_25 rfl rfl ?_
    refine Gx_iload_n (i := 1) dX2_isImage_26 rfl rfl ?_
    refine Gx_iconst ⟨by decide, by decide⟩ dX2_isImage_27 ?_
    refine Gx_iload dX2_isImage_28 rfl ?_
    refine Gx_iadd dX2_isImage_30 ?_
    try simp (disch := omega) only [w32_id]
    refine cl_X2_122 dX2_isImage_31 rfl rfl ⟨(Nat.le_of_ble_eq_true rfl), (Nat.le_of_ble_eq_true rfl)⟩ rfl ?_
    try rw [show (1 : Int) + 0 = 1 from rfl]
    refine ct_X2_rowAt (by omega) (by omega) ?_
    refine Gx_istore_5 dX2_isImage_34 (Nat.le_of_ble_eq_true rfl) (Nat.ne_of_beq_eq_false rfl) ?_
    refine Gx_iload_n (i := 3) dX2_isImage_36 rfl rfl ?_
    refine Gx_if_eq (tgt := 75) dX2_isImage_37 (by decide) (fun hz => absurd hz (by decide)) (fun _ => ?_)
    refine Gx_iload dX2_isImage_40 rfl ?_
    refine Gx_aload_n (i := 0) dX2_isImage_42 rfl rfl ?_
    refine gf_X2_194_22 dX2_isImage_43 rfl rfl ?_
    refine Gx_icmp_ge (tgt := 64) dX2_isImage_46 (by decide) (fun c46 => ?_) (fun c46 => ?_)
    · refine Gx_iload dX2_isImage_64 rfl ?_
      refine Gx_bipush dX2_isImage_66 ⟨by decide, by decide⟩ ?_
      refine Gx_icmp_ne (tgt := 75) dX2_isImage_68 (by decide) (fun c68 => ?_) (fun c68 => ?_)
      · refine Gx_iconst ⟨by decide, by decide⟩ dX2_isImage_75 ?_
        refine Gx_istore_n_3 dX2_isImage_76 (Nat.le_of_ble_eq_true rfl) (Nat.ne_of_beq_eq_false rfl) ?_
        refine Gx_iinc_4 dX2_isImage_77 (Nat.le_of_ble_eq_true rfl) (Nat.ne_of_beq_eq_false rfl) ?_
        rw [show w32 (0 + 1) = (1 : Int) from by decide]
        refine Gx_goto (tgt := 19) dX2_isImage_80 (by decide) ?_
        refine Gx_iload dX2_isImage_19 rfl ?_
        refine Gx_iconst ⟨by decide, by decide⟩ dX2_isImage_21 ?_
        refine Gx_icmp_ge (tgt := 83) dX2_isImage_22 (by decide) (fun hz => absurd hz (by decide)) (fun _ => ?_)
        refine Gx_aload_n (i := 0) dX2_isImage_25 rfl rfl ?_
        refine Gx_iload_n (i := 1) dX2_isImage_26 rfl rfl ?_
        refine Gx_iconst ⟨by decide, by decide⟩ dX2_isImage_27 ?_
        refine Gx_iload dX2_isImage_28 rfl ?_
        refine Gx_iadd dX2_isImage_30 ?_
        try simp (disch := omega) only [w32_id]
        refine cl_X2_122 dX2_isImage_31 rfl rfl ⟨(Nat.le_of_ble_eq_true rfl), (Nat.le_of_ble_eq_true rfl)⟩ rfl ?_
        try rw [show (1 : Int) + 1 = 2 from rfl]
        refine ct_X2_rowAt (by omega) (by omega) ?_
        refine Gx_istore_5 dX2_isImage_34 (Nat.le_of_ble_eq_true rfl) (Nat.ne_of_beq_eq_false rfl) ?_
        refine Gx_iload_n (i := 3) dX2_isImage_36 rfl rfl ?_
        refine Gx_if_eq (tgt := 75) dX2_isImage_37 (by decide) (fun _ => ?_) (fun hz => absurd hz (by decide))
        refine Gx_iconst ⟨by decide, by decide⟩ dX2_isImage_75 ?_
        refine Gx_istore_n_3 dX2_isImage_76 (Nat.le_of_ble_eq_true rfl) (Nat.ne_of_beq_eq_false rfl) ?_
        refine Gx_iinc_4 dX2_isImage_77 (Nat.le_of_ble_eq_true rfl) (Nat.ne_of_beq_eq_false rfl) ?_
        rw [show w32 (1 + 1) = (2 : Int) from by decide]
        refine Gx_goto (tgt := 19) dX2_isImage_80 (by decide) ?_
        refine Gx_iload dX2_isImage_19 rfl ?_
        refine Gx_iconst ⟨by decide, by decide⟩ dX2_isImage_21 ?_
        refine Gx_icmp_ge (tgt := 83) dX2_isImage_22 (by decide) (fun _ => ?_) (fun hz => absurd hz (by decide))
        refine Gx_iconst ⟨by decide, by decide⟩ dX2_isImage_83 ?_
        refine Gx_istore_4 dX2_isImage_84 (Nat.le_of_ble_eq_true rfl) (Nat.ne_of_beq_eq_false rfl) ?_
        refine lp_X2_isImage (P := pI0 (v 38 22) (mRw v r)) (n := v 38 33) hr rfl (by omega) rfl (fun h1 h2 => k1 ⟨h1, h2⟩) (fun h => k0 h) (v 38 33).toNat 0 _ _ _ (by omega) (by omega) ?_
        first
          | exact Or.inl ⟨rfl, (by unfold pI0 mRw; omega), rfl⟩
          | exact Or.inr ⟨rfl, fun hz => (by have hz1 := hz.1; unfold pI0 mRw at hz1; omega)⟩
      · refine Gx_iconst ⟨by decide, by decide⟩ dX2_isImage_71 ?_
        refine Gx_goto (tgt := 76) dX2_isImage_72 (by decide) ?_
        refine Gx_istore_n_3 dX2_isImage_76 (Nat.le_of_ble_eq_true rfl) (Nat.ne_of_beq_eq_false rfl) ?_
        refine Gx_iinc_4 dX2_isImage_77 (Nat.le_of_ble_eq_true rfl) (Nat.ne_of_beq_eq_false rfl) ?_
        rw [show w32 (0 + 1) = (1 : Int) from by decide]
        refine Gx_goto (tgt := 19) dX2_isImage_80 (by decide) ?_
        refine Gx_iload dX2_isImage_19 rfl ?_
        refine Gx_iconst ⟨by decide, by decide⟩ dX2_isImage_21 ?_
        refine Gx_icmp_ge (tgt := 83) dX2_isImage_22 (by decide) (fun hz => absurd hz (by decide)) (fun _ => ?_)
        refine Gx_aload_n (i := 0) dX2_isImage_25 rfl rfl ?_
        refine Gx_iload_n (i := 1) dX2_isImage_26 rfl rfl ?_
        refine Gx_iconst ⟨by decide, by decide⟩ dX2_isImage_27 ?_
        refine Gx_iload dX2_isImage_28 rfl ?_
        refine Gx_iadd dX2_isImage_30 ?_
        try simp (disch := omega) only [w32_id]
        refine cl_X2_122 dX2_isImage_31 rfl rfl ⟨(Nat.le_of_ble_eq_true rfl), (Nat.le_of_ble_eq_true rfl)⟩ rfl ?_
        try rw [show (1 : Int) + 1 = 2 from rfl]
        refine ct_X2_rowAt (by omega) (by omega) ?_
        refine Gx_istore_5 dX2_isImage_34 (Nat.le_of_ble_eq_true rfl) (Nat.ne_of_beq_eq_false rfl) ?_
        refine Gx_iload_n (i := 3) dX2_isImage_36 rfl rfl ?_
        refine Gx_if_eq (tgt := 75) dX2_isImage_37 (by decide) (fun hz => absurd hz (by decide)) (fun _ => ?_)
        refine Gx_iload dX2_isImage_40 rfl ?_
        refine Gx_aload_n (i := 0) dX2_isImage_42 rfl rfl ?_
        refine gf_X2_194_22 dX2_isImage_43 rfl rfl ?_
        refine Gx_icmp_ge (tgt := 64) dX2_isImage_46 (by decide) (fun c46 => ?_) (fun c46 => ?_)
        · refine Gx_iload dX2_isImage_64 rfl ?_
          refine Gx_bipush dX2_isImage_66 ⟨by decide, by decide⟩ ?_
          refine Gx_icmp_ne (tgt := 75) dX2_isImage_68 (by decide) (fun c68 => ?_) (fun c68 => ?_)
          · refine Gx_iconst ⟨by decide, by decide⟩ dX2_isImage_75 ?_
            refine Gx_istore_n_3 dX2_isImage_76 (Nat.le_of_ble_eq_true rfl) (Nat.ne_of_beq_eq_false rfl) ?_
            refine Gx_iinc_4 dX2_isImage_77 (Nat.le_of_ble_eq_true rfl) (Nat.ne_of_beq_eq_false rfl) ?_
            rw [show w32 (1 + 1) = (2 : Int) from by decide]
            refine Gx_goto (tgt := 19) dX2_isImage_80 (by decide) ?_
            refine Gx_iload dX2_isImage_19 rfl ?_
            refine Gx_iconst ⟨by decide, by decide⟩ dX2_isImage_21 ?_
            refine Gx_icmp_ge (tgt := 83) dX2_isImage_22 (by decide) (fun _ => ?_) (fun hz => absurd hz (by decide))
            refine Gx_iconst ⟨by decide, by decide⟩ dX2_isImage_83 ?_
            refine Gx_istore_4 dX2_isImage_84 (Nat.le_of_ble_eq_true rfl) (Nat.ne_of_beq_eq_false rfl) ?_
            refine lp_X2_isImage (P := pI0 (v 38 22) (mRw v r)) (n := v 38 33) hr rfl (by omega) rfl (fun h1 h2 => k1 ⟨h1, h2⟩) (fun h => k0 h) (v 38 33).toNat 0 _ _ _ (by omega) (by omega) ?_
            first
              | exact Or.inl ⟨rfl, (by unfold pI0 mRw; omega), rfl⟩
              | exact Or.inr ⟨rfl, fun hz => (by have hz1 := hz.1; unfold pI0 mRw at hz1; omega)⟩
          · refine Gx_iconst ⟨by decide, by decide⟩ dX2_isImage_71 ?_
            refine Gx_goto (tgt := 76) dX2_isImage_72 (by decide) ?_
            refine Gx_istore_n_3 dX2_isImage_76 (Nat.le_of_ble_eq_true rfl) (Nat.ne_of_beq_eq_false rfl) ?_
            refine Gx_iinc_4 dX2_isImage_77 (Nat.le_of_ble_eq_true rfl) (Nat.ne_of_beq_eq_false rfl) ?_
            rw [show w32 (1 + 1) = (2 : Int) from by decide]
            refine Gx_goto (tgt := 19) dX2_isImage_80 (by decide) ?_
            refine Gx_iload dX2_isImage_19 rfl ?_
            refine Gx_iconst ⟨by decide, by decide⟩ dX2_isImage_21 ?_
            refine Gx_icmp_ge (tgt := 83) dX2_isImage_22 (by decide) (fun _ => ?_) (fun hz => absurd hz (by decide))
            refine Gx_iconst ⟨by decide, by decide⟩ dX2_isImage_83 ?_
            refine Gx_istore_4 dX2_isImage_84 (Nat.le_of_ble_eq_true rfl) (Nat.ne_of_beq_eq_false rfl) ?_
            refine lp_X2_isImage (P := pI0 (v 38 22) (mRw v r)) (n := v 38 33) hr rfl (by omega) rfl (fun h1 h2 => k1 ⟨h1, h2⟩) (fun h => k0 h) (v 38 33).toNat 0 _ _ _ (by omega) (by omega) ?_
            first
              | exact Or.inl ⟨rfl, (by unfold pI0 mRw; omega), rfl⟩
              | exact Or.inr ⟨rfl, fun hz => (by have hz1 := hz.1; unfold pI0 mRw at hz1; omega)⟩
        · refine Gx_iload dX2_isImage_49 rfl ?_
          refine Gx_iconst ⟨by decide, by decide⟩ dX2_isImage_51 ?_
          refine Gx_sipush dX2_isImage_52 ⟨by decide, by decide⟩ ?_
          refine cl_X2_104 dX2_isImage_55 rfl ⟨(Nat.le_of_ble_eq_true rfl), (Nat.le_of_ble_eq_true rfl)⟩ rfl ?_
          refine ct_X2_in (fun c55 => ?_) (fun c55 => ?_)
          · refine Gx_if_eq (tgt := 75) dX2_isImage_58 (by decide) (fun hz => absurd hz (by decide)) (fun _ => ?_)
            refine Gx_goto (tgt := 71) dX2_isImage_61 (by decide) ?_
            refine Gx_iconst ⟨by decide, by decide⟩ dX2_isImage_71 ?_
            refine Gx_goto (tgt := 76) dX2_isImage_72 (by decide) ?_
            refine Gx_istore_n_3 dX2_isImage_76 (Nat.le_of_ble_eq_true rfl) (Nat.ne_of_beq_eq_false rfl) ?_
            refine Gx_iinc_4 dX2_isImage_77 (Nat.le_of_ble_eq_true rfl) (Nat.ne_of_beq_eq_false rfl) ?_
            rw [show w32 (1 + 1) = (2 : Int) from by decide]
            refine Gx_goto (tgt := 19) dX2_isImage_80 (by decide) ?_
            refine Gx_iload dX2_isImage_19 rfl ?_
            refine Gx_iconst ⟨by decide, by decide⟩ dX2_isImage_21 ?_
            refine Gx_icmp_ge (tgt := 83) dX2_isImage_22 (by decide) (fun _ => ?_) (fun hz => absurd hz (by decide))
            refine Gx_iconst ⟨by decide, by decide⟩ dX2_isImage_83 ?_
            refine Gx_istore_4 dX2_isImage_84 (Nat.le_of_ble_eq_true rfl) (Nat.ne_of_beq_eq_false rfl) ?_
            refine lp_X2_isImage (P := pI0 (v 38 22) (mRw v r)) (n := v 38 33) hr rfl (by omega) rfl (fun h1 h2 => k1 ⟨h1, h2⟩) (fun h => k0 h) (v 38 33).toNat 0 _ _ _ (by omega) (by omega) ?_
            first
              | exact Or.inl ⟨rfl, (by unfold pI0 mRw; omega), rfl⟩
              | exact Or.inr ⟨rfl, fun hz => (by have hz1 := hz.1; unfold pI0 mRw at hz1; omega)⟩
          · refine Gx_if_eq (tgt := 75) dX2_isImage_58 (by decide) (fun _ => ?_) (fun hz => absurd hz (by decide))
            refine Gx_iconst ⟨by decide, by decide⟩ dX2_isImage_75 ?_
            refine Gx_istore_n_3 dX2_isImage_76 (Nat.le_of_ble_eq_true rfl) (Nat.ne_of_beq_eq_false rfl) ?_
            refine Gx_iinc_4 dX2_isImage_77 (Nat.le_of_ble_eq_true rfl) (Nat.ne_of_beq_eq_false rfl) ?_
            rw [show w32 (1 + 1) = (2 : Int) from by decide]
            refine Gx_goto (tgt := 19) dX2_isImage_80 (by decide) ?_
            refine Gx_iload dX2_isImage_19 rfl ?_
            refine Gx_iconst ⟨by decide, by decide⟩ dX2_isImage_21 ?_
            refine Gx_icmp_ge (tgt := 83) dX2_isImage_22 (by decide) (fun _ => ?_) (fun hz => absurd hz (by decide))
            refine Gx_iconst ⟨by decide, by decide⟩ dX2_isImage_83 ?_
            refine Gx_istore_4 dX2_isImage_84 (Nat.le_of_ble_eq_true rfl) (Nat.ne_of_beq_eq_false rfl) ?_
            refine lp_X2_isImage (P := pI0 (v 38 22) (mRw v r)) (n := v 38 33) hr rfl (by omega) rfl (fun h1 h2 => k1 ⟨h1, h2⟩) (fun h => k0 h) (v 38 33).toNat 0 _ _ _ (by omega) (by omega) ?_
            first
              | exact Or.inl ⟨rfl, (by unfold pI0 mRw; omega), rfl⟩
              | exact Or.inr ⟨rfl, fun hz => (by have hz1 := hz.1; unfold pI0 mRw at hz1; omega)⟩
    · refine Gx_iload dX2_isImage_49 rfl ?_
      refine Gx_iconst ⟨by decide, by decide⟩ dX2_isImage_51 ?_
      refine Gx_sipush dX2_isImage_52 ⟨by decide, by decide⟩ ?_
      refine cl_X2_104 dX2_isImage_55 rfl ⟨(Nat.le_of_ble_eq_true rfl), (Nat.le_of_ble_eq_true rfl)⟩ rfl ?_
      refine ct_X2_in (fun c55 => ?_) (fun c55 => ?_)
      · refine Gx_if_eq (tgt := 75) dX2_isImage_58 (by decide) (fun hz => absurd hz (by decide)) (fun _ => ?_)
        refine Gx_goto (tgt := 71) dX2_isImage_61 (by decide) ?_
        refine Gx_iconst ⟨by decide, by decide⟩ dX2_isImage_71 ?_
        refine Gx_goto (tgt := 76) dX2_isImage_72 (by decide) ?_
        refine Gx_istore_n_3 dX2_isImage_76 (Nat.le_of_ble_eq_true rfl) (Nat.ne_of_beq_eq_false rfl) ?_
        refine Gx_iinc_4 dX2_isImage_77 (Nat.le_of_ble_eq_true rfl) (Nat.ne_of_beq_eq_false rfl) ?_
        rw [show w32 (0 + 1) = (1 : Int) from by decide]
        refine Gx_goto (tgt := 19) dX2_isImage_80 (by decide) ?_
        refine Gx_iload dX2_isImage_19 rfl ?_
        refine Gx_iconst ⟨by decide, by decide⟩ dX2_isImage_21 ?_
        refine Gx_icmp_ge (tgt := 83) dX2_isImage_22 (by decide) (fun hz => absurd hz (by decide)) (fun _ => ?_)
        refine Gx_aload_n (i := 0) dX2_isImage_25 rfl rfl ?_
        refine Gx_iload_n (i := 1) dX2_isImage_26 rfl rfl ?_
        refine Gx_iconst ⟨by decide, by decide⟩ dX2_isImage_27 ?_
        refine Gx_iload dX2_isImage_28 rfl ?_
        refine Gx_iadd dX2_isImage_30 ?_
        try simp (disch := omega) only [w32_id]
        refine cl_X2_122 dX2_isImage_31 rfl rfl ⟨(Nat.le_of_ble_eq_true rfl), (Nat.le_of_ble_eq_true rfl)⟩ rfl ?_
        try rw [show (1 : Int) + 1 = 2 from rfl]
        refine ct_X2_rowAt (by omega) (by omega) ?_
        refine Gx_istore_5 dX2_isImage_34 (Nat.le_of_ble_eq_true rfl) (Nat.ne_of_beq_eq_false rfl) ?_
        refine Gx_iload_n (i := 3) dX2_isImage_36 rfl rfl ?_
        refine Gx_if_eq (tgt := 75) dX2_isImage_37 (by decide) (fun hz => absurd hz (by decide)) (fun _ => ?_)
        refine Gx_iload dX2_isImage_40 rfl ?_
        refine Gx_aload_n (i := 0) dX2_isImage_42 rfl rfl ?_
        refine gf_X2_194_22 dX2_isImage_43 rfl rfl ?_
        refine Gx_icmp_ge (tgt := 64) dX2_isImage_46 (by decide) (fun c46 => ?_) (fun c46 => ?_)
        · refine Gx_iload dX2_isImage_64 rfl ?_
          refine Gx_bipush dX2_isImage_66 ⟨by decide, by decide⟩ ?_
          refine Gx_icmp_ne (tgt := 75) dX2_isImage_68 (by decide) (fun c68 => ?_) (fun c68 => ?_)
          · refine Gx_iconst ⟨by decide, by decide⟩ dX2_isImage_75 ?_
            refine Gx_istore_n_3 dX2_isImage_76 (Nat.le_of_ble_eq_true rfl) (Nat.ne_of_beq_eq_false rfl) ?_
            refine Gx_iinc_4 dX2_isImage_77 (Nat.le_of_ble_eq_true rfl) (Nat.ne_of_beq_eq_false rfl) ?_
            rw [show w32 (1 + 1) = (2 : Int) from by decide]
            refine Gx_goto (tgt := 19) dX2_isImage_80 (by decide) ?_
            refine Gx_iload dX2_isImage_19 rfl ?_
            refine Gx_iconst ⟨by decide, by decide⟩ dX2_isImage_21 ?_
            refine Gx_icmp_ge (tgt := 83) dX2_isImage_22 (by decide) (fun _ => ?_) (fun hz => absurd hz (by decide))
            refine Gx_iconst ⟨by decide, by decide⟩ dX2_isImage_83 ?_
            refine Gx_istore_4 dX2_isImage_84 (Nat.le_of_ble_eq_true rfl) (Nat.ne_of_beq_eq_false rfl) ?_
            refine lp_X2_isImage (P := pI0 (v 38 22) (mRw v r)) (n := v 38 33) hr rfl (by omega) rfl (fun h1 h2 => k1 ⟨h1, h2⟩) (fun h => k0 h) (v 38 33).toNat 0 _ _ _ (by omega) (by omega) ?_
            first
              | exact Or.inl ⟨rfl, (by unfold pI0 mRw; omega), rfl⟩
              | exact Or.inr ⟨rfl, fun hz => (by have hz1 := hz.1; unfold pI0 mRw at hz1; omega)⟩
          · refine Gx_iconst ⟨by decide, by decide⟩ dX2_isImage_71 ?_
            refine Gx_goto (tgt := 76) dX2_isImage_72 (by decide) ?_
            refine Gx_istore_n_3 dX2_isImage_76 (Nat.le_of_ble_eq_true rfl) (Nat.ne_of_beq_eq_false rfl) ?_
            refine Gx_iinc_4 dX2_isImage_77 (Nat.le_of_ble_eq_true rfl) (Nat.ne_of_beq_eq_false rfl) ?_
            rw [show w32 (1 + 1) = (2 : Int) from by decide]
            refine Gx_goto (tgt := 19) dX2_isImage_80 (by decide) ?_
            refine Gx_iload dX2_isImage_19 rfl ?_
            refine Gx_iconst ⟨by decide, by decide⟩ dX2_isImage_21 ?_
            refine Gx_icmp_ge (tgt := 83) dX2_isImage_22 (by decide) (fun _ => ?_) (fun hz => absurd hz (by decide))
            refine Gx_iconst ⟨by decide, by decide⟩ dX2_isImage_83 ?_
            refine Gx_istore_4 dX2_isImage_84 (Nat.le_of_ble_eq_true rfl) (Nat.ne_of_beq_eq_false rfl) ?_
            refine lp_X2_isImage (P := pI0 (v 38 22) (mRw v r)) (n := v 38 33) hr rfl (by omega) rfl (fun h1 h2 => k1 ⟨h1, h2⟩) (fun h => k0 h) (v 38 33).toNat 0 _ _ _ (by omega) (by omega) ?_
            first
              | exact Or.inl ⟨rfl, (by unfold pI0 mRw; omega), rfl⟩
              | exact Or.inr ⟨rfl, fun hz => (by have hz1 := hz.1; unfold pI0 mRw at hz1; omega)⟩
        · refine Gx_iload dX2_isImage_49 rfl ?_
          refine Gx_iconst ⟨by decide, by decide⟩ dX2_isImage_51 ?_
          refine Gx_sipush dX2_isImage_52 ⟨by decide, by decide⟩ ?_
          refine cl_X2_104 dX2_isImage_55 rfl ⟨(Nat.le_of_ble_eq_true rfl), (Nat.le_of_ble_eq_true rfl)⟩ rfl ?_
          refine ct_X2_in (fun c55 => ?_) (fun c55 => ?_)
          · refine Gx_if_eq (tgt := 75) dX2_isImage_58 (by decide) (fun hz => absurd hz (by decide)) (fun _ => ?_)
            refine Gx_goto (tgt := 71) dX2_isImage_61 (by decide) ?_
            refine Gx_iconst ⟨by decide, by decide⟩ dX2_isImage_71 ?_
            refine Gx_goto (tgt := 76) dX2_isImage_72 (by decide) ?_
            refine Gx_istore_n_3 dX2_isImage_76 (Nat.le_of_ble_eq_true rfl) (Nat.ne_of_beq_eq_false rfl) ?_
            refine Gx_iinc_4 dX2_isImage_77 (Nat.le_of_ble_eq_true rfl) (Nat.ne_of_beq_eq_false rfl) ?_
            rw [show w32 (1 + 1) = (2 : Int) from by decide]
            refine Gx_goto (tgt := 19) dX2_isImage_80 (by decide) ?_
            refine Gx_iload dX2_isImage_19 rfl ?_
            refine Gx_iconst ⟨by decide, by decide⟩ dX2_isImage_21 ?_
            refine Gx_icmp_ge (tgt := 83) dX2_isImage_22 (by decide) (fun _ => ?_) (fun hz => absurd hz (by decide))
            refine Gx_iconst ⟨by decide, by decide⟩ dX2_isImage_83 ?_
            refine Gx_istore_4 dX2_isImage_84 (Nat.le_of_ble_eq_true rfl) (Nat.ne_of_beq_eq_false rfl) ?_
            refine lp_X2_isImage (P := pI0 (v 38 22) (mRw v r)) (n := v 38 33) hr rfl (by omega) rfl (fun h1 h2 => k1 ⟨h1, h2⟩) (fun h => k0 h) (v 38 33).toNat 0 _ _ _ (by omega) (by omega) ?_
            first
              | exact Or.inl ⟨rfl, (by unfold pI0 mRw; omega), rfl⟩
              | exact Or.inr ⟨rfl, fun hz => (by have hz1 := hz.1; unfold pI0 mRw at hz1; omega)⟩
          · refine Gx_if_eq (tgt := 75) dX2_isImage_58 (by decide) (fun _ => ?_) (fun hz => absurd hz (by decide))
            refine Gx_iconst ⟨by decide, by decide⟩ dX2_isImage_75 ?_
            refine Gx_istore_n_3 dX2_isImage_76 (Nat.le_of_ble_eq_true rfl) (Nat.ne_of_beq_eq_false rfl) ?_
            refine Gx_iinc_4 dX2_isImage_77 (Nat.le_of_ble_eq_true rfl) (Nat.ne_of_beq_eq_false rfl) ?_
            rw [show w32 (1 + 1) = (2 : Int) from by decide]
            refine Gx_goto (tgt := 19) dX2_isImage_80 (by decide) ?_
            refine Gx_iload dX2_isImage_19 rfl ?_
            refine Gx_iconst ⟨by decide, by decide⟩ dX2_isImage_21 ?_
            refine Gx_icmp_ge (tgt := 83) dX2_isImage_22 (by decide) (fun _ => ?_) (fun hz => absurd hz (by decide))
            refine Gx_iconst ⟨by decide, by decide⟩ dX2_isImage_83 ?_
            refine Gx_istore_4 dX2_isImage_84 (Nat.le_of_ble_eq_true rfl) (Nat.ne_of_beq_eq_false rfl) ?_
            refine lp_X2_isImage (P := pI0 (v 38 22) (mRw v r)) (n := v 38 33) hr rfl (by omega) rfl (fun h1 h2 => k1 ⟨h1, h2⟩) (fun h => k0 h) (v 38 33).toNat 0 _ _ _ (by omega) (by omega) ?_
            first
              | exact Or.inl ⟨rfl, (by unfold pI0 mRw; omega), rfl⟩
              | exact Or.inr ⟨rfl, fun hz => (by have hz1 := hz.1; unfold pI0 mRw at hz1; omega)⟩
      · refine Gx_if_eq (tgt := 75) dX2_isImage_58 (by decide) (fun _ => ?_) (fun hz => absurd hz (by decide))
        refine Gx_iconst ⟨by decide, by decide⟩ dX2_isImage_75 ?_
        refine Gx_istore_n_3 dX2_isImage_76 (Nat.le_of_ble_eq_true rfl) (Nat.ne_of_beq_eq_false rfl) ?_
        refine Gx_iinc_4 dX2_isImage_77 (Nat.le_of_ble_eq_true rfl) (Nat.ne_of_beq_eq_false rfl) ?_
        rw [show w32 (0 + 1) = (1 : Int) from by decide]
        refine Gx_goto (tgt := 19) dX2_isImage_80 (by decide) ?_
        refine Gx_iload dX2_isImage_19 rfl ?_
        refine Gx_iconst ⟨by decide, by decide⟩ dX2_isImage_21 ?_
        refine Gx_icmp_ge (tgt := 83) dX2_isImage_22 (by decide) (fun hz => absurd hz (by decide)) (fun _ => ?_)
        refine Gx_aload_n (i := 0) dX2_isImage_25 rfl rfl ?_
        refine Gx_iload_n (i := 1) dX2_isImage_26 rfl rfl ?_
        refine Gx_iconst ⟨by decide, by decide⟩ dX2_isImage_27 ?_
        refine Gx_iload dX2_isImage_28 rfl ?_
        refine Gx_iadd dX2_isImage_30 ?_
        try simp (disch := omega) only [w32_id]
        refine cl_X2_122 dX2_isImage_31 rfl rfl ⟨(Nat.le_of_ble_eq_true rfl), (Nat.le_of_ble_eq_true rfl)⟩ rfl ?_
        try rw [show (1 : Int) + 1 = 2 from rfl]
        refine ct_X2_rowAt (by omega) (by omega) ?_
        refine Gx_istore_5 dX2_isImage_34 (Nat.le_of_ble_eq_true rfl) (Nat.ne_of_beq_eq_false rfl) ?_
        refine Gx_iload_n (i := 3) dX2_isImage_36 rfl rfl ?_
        refine Gx_if_eq (tgt := 75) dX2_isImage_37 (by decide) (fun _ => ?_) (fun hz => absurd hz (by decide))
        refine Gx_iconst ⟨by decide, by decide⟩ dX2_isImage_75 ?_
        refine Gx_istore_n_3 dX2_isImage_76 (Nat.le_of_ble_eq_true rfl) (Nat.ne_of_beq_eq_false rfl) ?_
        refine Gx_iinc_4 dX2_isImage_77 (Nat.le_of_ble_eq_true rfl) (Nat.ne_of_beq_eq_false rfl) ?_
        rw [show w32 (1 + 1) = (2 : Int) from by decide]
        refine Gx_goto (tgt := 19) dX2_isImage_80 (by decide) ?_
        refine Gx_iload dX2_isImage_19 rfl ?_
        refine Gx_iconst ⟨by decide, by decide⟩ dX2_isImage_21 ?_
        refine Gx_icmp_ge (tgt := 83) dX2_isImage_22 (by decide) (fun _ => ?_) (fun hz => absurd hz (by decide))
        refine Gx_iconst ⟨by decide, by decide⟩ dX2_isImage_83 ?_
        refine Gx_istore_4 dX2_isImage_84 (Nat.le_of_ble_eq_true rfl) (Nat.ne_of_beq_eq_false rfl) ?_
        refine lp_X2_isImage (P := pI0 (v 38 22) (mRw v r)) (n := v 38 33) hr rfl (by omega) rfl (fun h1 h2 => k1 ⟨h1, h2⟩) (fun h => k0 h) (v 38 33).toNat 0 _ _ _ (by omega) (by omega) ?_
        first
          | exact Or.inl ⟨rfl, (by unfold pI0 mRw; omega), rfl⟩
          | exact Or.inr ⟨rfl, fun hz => (by have hz1 := hz.1; unfold pI0 mRw at hz1; omega)⟩
  · refine Gx_istore_n_3 dX2_isImage_15 (Nat.le_of_ble_eq_true rfl) (Nat.ne_of_beq_eq_false rfl) ?_
    refine Gx_iconst ⟨by decide, by decide⟩ dX2_isImage_16 ?_
    refine Gx_istore_4 dX2_isImage_17 (Nat.le_of_ble_eq_true rfl) (Nat.ne_of_beq_eq_false rfl) ?_
    refine Gx_iload dX2_isImage_19 rfl ?_
    refine Gx_iconst ⟨by decide, by decide⟩ dX2_isImage_21 ?_
    refine Gx_icmp_ge (tgt := 83) dX2_isImage_22 (by decide) (fun hz => absurd hz (by decide)) (fun _ => ?_)
    refine Gx_aload_n (i := 0) dX2_isImage_25 rfl rfl ?_
    refine Gx_iload_n (i := 1) dX2_isImage_26 rfl rfl ?_
    refine Gx_iconst ⟨by decide, by decide⟩ dX2_isImage_27 ?_
    refine Gx_iload dX2_isImage_28 rfl ?_
    refine Gx_iadd dX2_isImage_30 ?_
    try simp (disch := omega) only [w32_id]
    refine cl_X2_122 dX2_isImage_31 rfl rfl ⟨(Nat.le_of_ble_eq_true rfl), (Nat.le_of_ble_eq_true rfl)⟩ rfl ?_
    try rw [show (1 : Int) + 0 = 1 from rfl]
    refine ct_X2_rowAt (by omega) (by omega) ?_
    refine Gx_istore_5 dX2_isImage_34 (Nat.le_of_ble_eq_true rfl) (Nat.ne_of_beq_eq_false rfl) ?_
    refine Gx_iload_n (i := 3) dX2_isImage_36 rfl rfl ?_
    refine Gx_if_eq (tgt := 75) dX2_isImage_37 (by decide) (fun _ => ?_) (fun hz => absurd hz (by decide))
    refine Gx_iconst ⟨by decide, by decide⟩ dX2_isImage_75 ?_
    refine Gx_istore_n_3 dX2_isImage_76 (Nat.le_of_ble_eq_true rfl) (Nat.ne_of_beq_eq_false rfl) ?_
    refine Gx_iinc_4 dX2_isImage_77 (Nat.le_of_ble_eq_true rfl) (Nat.ne_of_beq_eq_false rfl) ?_
    rw [show w32 (0 + 1) = (1 : Int) from by decide]
    refine Gx_goto (tgt := 19) dX2_isImage_80 (by decide) ?_
    refine Gx_iload dX2_isImage_19 rfl ?_
    refine Gx_iconst ⟨by decide, by decide⟩ dX2_isImage_21 ?_
    refine Gx_icmp_ge (tgt := 83) dX2_isImage_22 (by decide) (fun hz => absurd hz (by decide)) (fun _ => ?_)
    refine Gx_aload_n (i := 0) dX2_isImage_25 rfl rfl ?_
    refine Gx_iload_n (i := 1) dX2_isImage_26 rfl rfl ?_
    refine Gx_iconst ⟨by decide, by decide⟩ dX2_isImage_27 ?_
    refine Gx_iload dX2_isImage_28 rfl ?_
    refine Gx_iadd dX2_isImage_30 ?_
    try simp (disch := omega) only [w32_id]
    refine cl_X2_122 dX2_isImage_31 rfl rfl ⟨(Nat.le_of_ble_eq_true rfl), (Nat.le_of_ble_eq_true rfl)⟩ rfl ?_
    try rw [show (1 : Int) + 1 = 2 from rfl]
    refine ct_X2_rowAt (by omega) (by omega) ?_
    refine Gx_istore_5 dX2_isImage_34 (Nat.le_of_ble_eq_true rfl) (Nat.ne_of_beq_eq_false rfl) ?_
    refine Gx_iload_n (i := 3) dX2_isImage_36 rfl rfl ?_
    refine Gx_if_eq (tgt := 75) dX2_isImage_37 (by decide) (fun _ => ?_) (fun hz => absurd hz (by decide))
    refine Gx_iconst ⟨by decide, by decide⟩ dX2_isImage_75 ?_
    refine Gx_istore_n_3 dX2_isImage_76 (Nat.le_of_ble_eq_true rfl) (Nat.ne_of_beq_eq_false rfl) ?_
    refine Gx_iinc_4 dX2_isImage_77 (Nat.le_of_ble_eq_true rfl) (Nat.ne_of_beq_eq_false rfl) ?_
    rw [show w32 (1 + 1) = (2 : Int) from by decide]
    refine Gx_goto (tgt := 19) dX2_isImage_80 (by decide) ?_
    refine Gx_iload dX2_isImage_19 rfl ?_
    refine Gx_iconst ⟨by decide, by decide⟩ dX2_isImage_21 ?_
    refine Gx_icmp_ge (tgt := 83) dX2_isImage_22 (by decide) (fun _ => ?_) (fun hz => absurd hz (by decide))
    refine Gx_iconst ⟨by decide, by decide⟩ dX2_isImage_83 ?_
    refine Gx_istore_4 dX2_isImage_84 (Nat.le_of_ble_eq_true rfl) (Nat.ne_of_beq_eq_false rfl) ?_
    refine lp_X2_isImage (P := pI0 (v 38 22) (mRw v r)) (n := v 38 33) hr rfl (by omega) rfl (fun h1 h2 => k1 ⟨h1, h2⟩) (fun h => k0 h) (v 38 33).toNat 0 _ _ _ (by omega) (by omega) ?_
    first
      | exact Or.inl ⟨rfl, (by unfold pI0 mRw; omega), rfl⟩
      | exact Or.inr ⟨rfl, fun hz => (by have hz1 := hz.1; unfold pI0 mRw at hz1; omega)⟩
end
