/-! texts of woods: the pure reader; AcornYearsModel reads it so -/
section
variable {Γ : gC} {v : gM} {K : gH} {t : Nat} {Q : gQ}
abbrev pB : Type := Int → Int
/-- figures, at most so many -/
def pDig (b : pB) : Nat → Int → Int → Int × Int
  | 0, p, x => (p, x)
  | f + 1, p, x => if 48 ≤ b p ∧ b p ≤ 57 then pDig b f (p + 1) (10 * x + b p - 48) else (p, x)
/-- a number between bounds: where it fails, or where it ends, and the number -/
def pRd (b : pB) (f : Nat) (lo hi p : Int) : Except Int (Int × Int) := if p < (pDig b f p 0).1 ∧ lo ≤ (pDig b f p 0).2 ∧ (pDig b f p 0).2 ≤ hi then .ok (pDig b f p 0) else .error (pDig b f p 0).1
def pSg (b : pB) (c p : Int) : Except Int Int := if b p = c then .ok (p + 1) else .error p
/-- the text r of the model's memory -/
def mB (v : gM) (r : Int) : pB := fun i => sByte v r i
theorem pDig_pos (b : pB) : ∀ (f : Nat) (p x : Int), p ≤ (pDig b f p x).1 ∧ (pDig b f p x).1 ≤ p + f
  | 0, p, x => by unfold pDig; omega
  | f + 1, p, x => by
    unfold pDig
    split
    · have := pDig_pos b f (p + 1) (10 * x + b p - 48); omega
    · show p ≤ p ∧ p ≤ p + (f + 1 : Nat); omega
theorem pDig_num (b : pB) : ∀ (f : Nat) (p x : Int), f ≤ 2 → 0 ≤ x → x ≤ 99 → (1 ≤ f → x ≤ 9) → (2 ≤ f → x = 0) → 0 ≤ (pDig b f p x).2 ∧ (pDig b f p x).2 ≤ 99
  | 0, p, x, _, h0, h1, _, _ => ⟨h0, h1⟩
  | f + 1, p, x, h, h0, h1, h2, h3 => by
    unfold pDig
    split
    · refine pDig_num b f (p + 1) _ (by omega) ?_ ?_ ?_ ?_ <;> omega
    · exact ⟨h0, h1⟩
theorem pRd_ok {b : pB} {f : Nat} {lo hi p p' x : Int} (h : pRd b f lo hi p = .ok (p', x)) : p < p' ∧ p' ≤ p + f ∧ lo ≤ x ∧ x ≤ hi := by
  unfold pRd at h
  split at h
  · have h1 := pDig_pos b f p 0
    have h2 := Except.ok.inj h
    rw [h2] at h1
    rename_i h3
    rw [h2] at h3
    exact ⟨h3.1, h1.2, h3.2⟩
  · cases h
theorem pRd_err {b : pB} {f : Nat} {lo hi p p' : Int} (h : pRd b f lo hi p = .error p') : p ≤ p' ∧ p' ≤ p + f := by
  unfold pRd at h
  split at h
  · cases h
  · have h1 := pDig_pos b f p 0
    have h2 := Except.error.inj h
    rw [h2] at h1
    exact h1
theorem pSg_ok {b : pB} {c p p' : Int} (h : pSg b c p = .ok p') : p' = p + 1 := by
  unfold pSg at h
  split at h
  · exact (Except.ok.inj h).symm
  · cases h
theorem pSg_err {b : pB} {c p p' : Int} (h : pSg b c p = .error p') : p' = p := by
  unfold pSg at h
  split at h
  · cases h
  · exact (Except.error.inj h).symm
def pMore (b : pB) (kind p : Int) : Except Int (Int × Int × Int × Int) := do
  let p ← pSg b (if kind = 3 then 64 else 62) p
  let (p, x4) ← pRd b (if kind = 3 then 1 else 2) 0 (if kind = 3 then 2 else 60) p
  let p ← pSg b 45 p
  let (p, x5) ← pRd b 2 1 (if kind = 3 then 60 else min 60 (x4 + 1)) p
  if kind = 4 then do
    let p ← pSg b 38 p
    let (p, x6) ← pRd b 2 0 99 p
    return (p, x4, x5, x6)
  else if kind = 5 then do
    let p ← pSg b 126 p
    let (p, x6) ← pRd b 1 2 9 p
    return (p, x4, x5, x6)
  else return (p, x4, x5, 0)
def pSort (b : pB) (kind p : Int) : Except Int (Int × (Int → Int)) := do
  let (p, a0) ← pRd b 1 0 9 p
  let (p, a1) ← pRd b 1 0 9 p
  let (p, a2) ← pRd b 1 0 9 p
  let (p, x4, x5, x6) ← if kind = 1 then pure (p, 0, 0, 0) else pMore b kind p
  return (p, fun k => if k = 0 then kind else if k = 1 then a0 else if k = 2 then a1 else if k = 3 then a2 else if k = 4 then x4 else if k = 5 then x5 else x6)
/-- what isn't in S stays -/
def Fr (S : Int → Int → Prop) (v v' : gM) : Prop := ∀ a j, ¬ S a j → v' a j = v a j
theorem Fr.trans {S S' : Int → Int → Prop} {v v1 v2 : gM} (h1 : Fr S v v1) (h2 : Fr S' v1 v2) : Fr (fun a j => S a j ∨ S' a j) v v2 := fun a j h => (h2 a j (fun z => h (Or.inr z))).trans (h1 a j (fun z => h (Or.inl z)))
theorem Fr.mono {S S' : Int → Int → Prop} {v v1 : gM} (h1 : Fr S v v1) (h : ∀ a j, S a j → S' a j) : Fr S' v v1 := fun a j hn => h1 a j (fun z => hn (h a j z))

theorem gUp_re {v : gM} {a j l x y x' y' : Int} : gUp (gUp (gUp (gUp v a j x) a l y) a j x') a l y' = gUp (gUp v a j x') a l y' := by
  funext b k
  unfold gUp
  by_cases hb : b = a
  · by_cases hl : k = l
    · simp [hb, hl]
    · by_cases hj : k = j <;> simp [hb, hl, hj]
  · simp [hb]
theorem gUp_up {v : gM} {a j x y : Int} : gUp (gUp v a j x) a j y = gUp v a j y := by
  funext b k
  unfold gUp
  by_cases hb : b = a <;> by_cases hj : k = j <;> simp [hb, hj]

theorem ct_X2_isFigure {r : Int} (hr : 0 ≤ r ∧ r ≤ 3) (hs : v 43 r ≤ 80) (hp : 0 ≤ v 38 10 ∧ v 38 10 ≤ 1000) (k1 : 48 ≤ mB v r (v 38 10) ∧ mB v r (v 38 10) ≤ 57 → Q (0, 1) v (gHd K) t) (k0 : ¬ (48 ≤ mB v r (v 38 10) ∧ mB v r (v 38 10) ≤ 57) → Q (0, 0) v (gHd K) t) : Ctr Γ mX2_isFigure [(2, 38), (0, r)] v (gHd K) t Q := by
  refine Ctr.ofG (ls := [(2, 38), (0, r)]) rfl rfl rfl rfl rfl ?_
  refine Gx_aload_n (i := 0) dX2_isFigure_0 rfl rfl ?_
  refine Gx_iload_n (i := 1) dX2_isFigure_1 rfl rfl ?_
  refine Gx_aload_n (i := 0) dX2_isFigure_2 rfl rfl ?_
  refine gf_X2_132_22 dX2_isFigure_3 rfl rfl ?_
  refine cl_X2_135 dX2_isFigure_6 rfl rfl ⟨(Nat.le_of_ble_eq_true rfl), (Nat.le_of_ble_eq_true rfl)⟩ rfl ?_
  refine ct_X2_byteAt (by omega) (by omega) (by omega) ?_
  refine Gx_bipush dX2_isFigure_9 ⟨by decide, by decide⟩ ?_
  refine Gx_bipush dX2_isFigure_11 ⟨by decide, by decide⟩ ?_
  refine cl_X2_104 dX2_isFigure_13 rfl ⟨(Nat.le_of_ble_eq_true rfl), (Nat.le_of_ble_eq_true rfl)⟩ rfl ?_
  refine ct_X2_in (fun c13 => ?_) (fun c13 => ?_)
  · refine Gx_ireturn dX2_isFigure_16 (Or.inr rfl) ?_
    first | exact k1 c13 | exact k0 c13
  · refine Gx_ireturn dX2_isFigure_16 (Or.inl rfl) ?_
    first | exact k1 c13 | exact k0 c13
theorem ct_X2_sign {r c : Int} (hr : 0 ≤ r ∧ r ≤ 3) (hs : v 43 r ≤ 80) (hp : 0 ≤ v 38 10 ∧ v 38 10 ≤ 1000) (k1 : ∀ p, pSg (mB v r) c (v 38 10) = .ok p → Q (0, 1) (gUp v 38 10 p) (gHd K) t) (k0 : ∀ p, pSg (mB v r) c (v 38 10) = .error p → Q (0, 0) (gUp v 38 10 p) (gHd K) t) : Ctr Γ mX2_sign [(2, 38), (0, r), (0, c)] v (gHd K) t Q := by
  refine Ctr.ofG (ls := [(2, 38), (0, r), (0, c), (9, 0)]) rfl rfl rfl rfl rfl ?_
  refine Gx_aload_n (i := 0) dX2_sign_0 rfl rfl ?_
  refine Gx_iload_n (i := 1) dX2_sign_1 rfl rfl ?_
  refine Gx_aload_n (i := 0) dX2_sign_2 rfl rfl ?_
  refine gf_X2_132_22 dX2_sign_3 rfl rfl ?_
  refine cl_X2_135 dX2_sign_6 rfl rfl ⟨(Nat.le_of_ble_eq_true rfl), (Nat.le_of_ble_eq_true rfl)⟩ rfl ?_
  refine ct_X2_byteAt (by omega) (by omega) (by omega) ?_
  refine Gx_iload_n (i := 2) dX2_sign_9 rfl rfl ?_
  refine Gx_icmp_ne (tgt := 17) dX2_sign_10 (by decide) (fun c10 => ?_) (fun c10 => ?_)
  · refine Gx_iconst ⟨by decide, by decide⟩ dX2_sign_17 ?_
    refine Gx_istore_n_3 dX2_sign_18 (Nat.le_of_ble_eq_true rfl) (Nat.ne_of_beq_eq_false rfl) ?_
    refine Gx_aload_n (i := 0) dX2_sign_19 rfl rfl ?_
    refine Gx_dup (Nat.ne_of_beq_eq_false rfl) dX2_sign_20 ?_
    refine gf_X2_132_22 dX2_sign_21 rfl rfl ?_
    refine Gx_iload_n (i := 3) dX2_sign_24 rfl rfl ?_
    refine Gx_if_eq (tgt := 32) dX2_sign_25 (by decide) (fun _ => ?_) (fun hz => absurd hz (by decide))
    refine Gx_iconst ⟨by decide, by decide⟩ dX2_sign_32 ?_
    refine Gx_iadd dX2_sign_33 ?_
    try simp (disch := omega) only [w32_id]
    refine pf_X2_132_22 dX2_sign_34 rfl rfl ?_
    refine Gx_iload_n (i := 3) dX2_sign_37 rfl rfl ?_
    refine Gx_ireturn dX2_sign_38 (Or.inl rfl) ?_
    by_cases hz : mB v r (v 38 10) = c
    · first | exact k1 _ (if_pos hz) | exact absurd hz c10
    · have hz2 := k0 _ (if_neg hz)
      first | exact absurd c10 hz | (rw [show v 38 10 + 0 = v 38 10 by omega]; exact hz2)
  · refine Gx_iconst ⟨by decide, by decide⟩ dX2_sign_13 ?_
    refine Gx_goto (tgt := 18) dX2_sign_14 (by decide) ?_
    refine Gx_istore_n_3 dX2_sign_18 (Nat.le_of_ble_eq_true rfl) (Nat.ne_of_beq_eq_false rfl) ?_
    refine Gx_aload_n (i := 0) dX2_sign_19 rfl rfl ?_
    refine Gx_dup (Nat.ne_of_beq_eq_false rfl) dX2_sign_20 ?_
    refine gf_X2_132_22 dX2_sign_21 rfl rfl ?_
    refine Gx_iload_n (i := 3) dX2_sign_24 rfl rfl ?_
    refine Gx_if_eq (tgt := 32) dX2_sign_25 (by decide) (fun hz => absurd hz (by decide)) (fun _ => ?_)
    refine Gx_iconst ⟨by decide, by decide⟩ dX2_sign_28 ?_
    refine Gx_goto (tgt := 33) dX2_sign_29 (by decide) ?_
    refine Gx_iadd dX2_sign_33 ?_
    try simp (disch := omega) only [w32_id]
    refine pf_X2_132_22 dX2_sign_34 rfl rfl ?_
    refine Gx_iload_n (i := 3) dX2_sign_37 rfl rfl ?_
    refine Gx_ireturn dX2_sign_38 (Or.inr rfl) ?_
    by_cases hz : mB v r (v 38 10) = c
    · first | exact k1 _ (if_pos hz) | exact absurd hz c10
    · have hz2 := k0 _ (if_neg hz)
      first | exact absurd c10 hz | (rw [show v 38 10 + 0 = v 38 10 by omega]; exact hz2)
theorem lp_X2_reads {r lo hi F : Int} {bc bs : Nat} {v0 : gM} (hr : 0 ≤ r ∧ r ≤ 3) (hs : v0 43 r ≤ 80) (hF : F ≤ 2) : ∀ (j : Nat) (n q x : Int), 0 ≤ n → n + j = F → 0 ≤ q ∧ q + j ≤ 1000 → 0 ≤ x → x ≤ 99 → (1 ≤ j → x ≤ 9) → (2 ≤ j → x = 0) →
    (∀ m : Int, n ≤ m → (q < (pDig (mB v0 r) j q x).1 ∨ 0 < n ↔ 0 < m) → Gx Γ mX2_reads 62 [(2, 38), (0, r), (0, F), (0, lo), (0, hi), (0, m)] [] (gUp (gUp v0 38 11 (pDig (mB v0 r) j q x).2) 38 10 (pDig (mB v0 r) j q x).1) (gHd K) t bc bs Q) →
    Gx Γ mX2_reads 8 [(2, 38), (0, r), (0, F), (0, lo), (0, hi), (0, n)] [] (gUp (gUp v0 38 11 x) 38 10 q) (gHd K) t bc bs Q := by
  intro j
  induction j with
  | zero =>
    intro n q x h0 h1 hq hx0 hx1 hx2 hx3 k
    refine Gx_iload dX2_reads_8 rfl ?_
    refine Gx_iload_n (i := 2) dX2_reads_10 rfl rfl ?_
    refine Gx_icmp_ge (tgt := 62) dX2_reads_11 (by decide) (fun c11 => ?_) (fun c11 => ?_)
    · exact k n (Int.le_refl _) (by show q < q ∨ 0 < n ↔ 0 < n; omega)
    · exfalso
      omega
  | succ j ih =>
    intro n q x h0 h1 hq hx0 hx1 hx2 hx3 k
    have e1 : gUp (gUp v0 38 11 x) 38 10 q 38 10 = q := by simp [gUp]
    have e2 : gUp (gUp v0 38 11 x) 38 10 q 38 11 = x := by simp [gUp]
    have e3 : gUp (gUp v0 38 11 x) 38 10 q 43 r = v0 43 r := by simp [gUp]
    have e4 : mB (gUp (gUp v0 38 11 x) 38 10 q) r = mB v0 r := rfl
    refine Gx_iload dX2_reads_8 rfl ?_
    refine Gx_iload_n (i := 2) dX2_reads_10 rfl rfl ?_
    refine Gx_icmp_ge (tgt := 62) dX2_reads_11 (by decide) (fun c11 => ?_) (fun c11 => ?_)
    · first
        | (exfalso; omega)
        | (have e : pDig (mB v0 r) (j + 1) q x = (q, x) := by
             unfold pDig
             rw [if_neg (by rw [← e4]; rw [e1] at c16; exact c16)]
           rw [e] at k
           exact k n (Int.le_refl _) (by show q < q ∨ 0 < n ↔ 0 < n; omega))
    · refine Gx_aload_n (i := 0) dX2_reads_14 rfl rfl ?_
      refine Gx_iload_n (i := 1) dX2_reads_15 rfl rfl ?_
      refine cl_X2_141 dX2_reads_16 rfl rfl ⟨(Nat.le_of_ble_eq_true rfl), (Nat.le_of_ble_eq_true rfl)⟩ rfl ?_
      refine ct_X2_isFigure (by omega) (by omega) (by omega) (fun c16 => ?_) (fun c16 => ?_)
      · refine Gx_if_eq (tgt := 62) dX2_reads_19 (by decide) (fun hz => absurd hz (by decide)) (fun _ => ?_)
        refine Gx_aload_n (i := 0) dX2_reads_22 rfl rfl ?_
        refine Gx_bipush dX2_reads_23 ⟨by decide, by decide⟩ ?_
        refine Gx_aload_n (i := 0) dX2_reads_25 rfl rfl ?_
        refine gf_X2_138_22 dX2_reads_26 rfl rfl ?_
        refine Gx_imul dX2_reads_29 ?_
        refine Gx_aload_n (i := 0) dX2_reads_30 rfl rfl ?_
        refine Gx_iload_n (i := 1) dX2_reads_31 rfl rfl ?_
        refine Gx_aload_n (i := 0) dX2_reads_32 rfl rfl ?_
        refine gf_X2_132_22 dX2_reads_33 rfl rfl ?_
        refine cl_X2_135 dX2_reads_36 rfl rfl ⟨(Nat.le_of_ble_eq_true rfl), (Nat.le_of_ble_eq_true rfl)⟩ rfl ?_
        refine ct_X2_byteAt (by omega) (by omega) (by omega) ?_
        refine Gx_iadd dX2_reads_39 ?_
        refine Gx_bipush dX2_reads_40 ⟨by decide, by decide⟩ ?_
        refine Gx_isub dX2_reads_42 ?_
        refine pf_X2_138_22 dX2_reads_43 rfl rfl ?_
        refine Gx_aload_n (i := 0) dX2_reads_46 rfl rfl ?_
        refine Gx_dup (Nat.ne_of_beq_eq_false rfl) dX2_reads_47 ?_
        refine gf_X2_132_22 dX2_reads_48 rfl rfl ?_
        refine Gx_iconst ⟨by decide, by decide⟩ dX2_reads_51 ?_
        refine Gx_iadd dX2_reads_52 ?_
        refine pf_X2_132_22 dX2_reads_53 rfl rfl ?_
        refine Gx_iinc_5 dX2_reads_56 (Nat.le_of_ble_eq_true rfl) (Nat.ne_of_beq_eq_false rfl) ?_
        refine Gx_goto (tgt := 8) dX2_reads_59 (by decide) ?_
        have hd : 48 ≤ mB v0 r q ∧ mB v0 r q ≤ 57 := by rw [← e4]; rw [e1] at c16; exact c16
        have e : pDig (mB v0 r) (j + 1) q x = pDig (mB v0 r) j (q + 1) (10 * x + mB v0 r q - 48) := by
          show (if _ then _ else _) = _
          rw [if_pos hd]
        rw [e] at k
        have hp2 := pDig_pos (mB v0 r) j (q + 1) (10 * x + mB v0 r q - 48)
        have ex : w32 (w32 (w32 (10 * x) + mB v0 r q) - 48) = 10 * x + mB v0 r q - 48 := by simp (disch := omega) only [w32_id]
        have eq1 : w32 (q + 1) = q + 1 := w32_id (by omega) (by omega)
        show Gx Γ mX2_reads 8 [(2, 38), (0, r), (0, F), (0, lo), (0, hi), (0, w32 (n + 1))] [] (gUp (gUp (gUp (gUp v0 38 11 x) 38 10 q) 38 11 (w32 (w32 (w32 (10 * x) + mB v0 r q) - 48))) 38 10 (w32 (q + 1))) (gHd K) t bc bs Q
        rw [ex, eq1, gUp_re, w32_id (x := n + 1) (by omega) (by omega)]
        refine ih (n + 1) (q + 1) (10 * x + mB v0 r q - 48) (by omega) (by omega) (by omega) (by omega) (by omega) (by omega) (by omega) ?_
        intro m h1 h2
        refine k m (by omega) ?_
        omega
      · refine Gx_if_eq (tgt := 62) dX2_reads_19 (by decide) (fun _ => ?_) (fun hz => absurd hz (by decide))
        first
          | (exfalso; omega)
          | (have e : pDig (mB v0 r) (j + 1) q x = (q, x) := by
               unfold pDig
               rw [if_neg (by rw [← e4]; rw [e1] at c16; exact c16)]
             rw [e] at k
             exact k n (Int.le_refl _) (by show q < q ∨ 0 < n ↔ 0 < n; omega))
theorem ct_X2_reads {r F lo hi : Int} {f : Nat} (hr : 0 ≤ r ∧ r ≤ 3) (hs : v 43 r ≤ 80) (hp : 0 ≤ v 38 10 ∧ v 38 10 ≤ 900) (hF : F = f) (hf : f ≤ 2) (k1 : ∀ q x, pRd (mB v r) f lo hi (v 38 10) = .ok (q, x) → Q (0, 1) (gUp (gUp v 38 11 x) 38 10 q) (gHd K) t) (k0 : ∀ q x, 0 ≤ x ∧ x ≤ 99 → pRd (mB v r) f lo hi (v 38 10) = .error q → Q (0, 0) (gUp (gUp v 38 11 x) 38 10 q) (gHd K) t) : Ctr Γ mX2_reads [(2, 38), (0, r), (0, F), (0, lo), (0, hi)] v (gHd K) t Q := by
  refine Ctr.ofG (ls := [(2, 38), (0, r), (0, F), (0, lo), (0, hi), (9, 0)]) rfl rfl rfl rfl rfl ?_
  refine Gx_iconst ⟨by decide, by decide⟩ dX2_reads_0 ?_
  refine Gx_istore_5 dX2_reads_1 (Nat.le_of_ble_eq_true rfl) (Nat.ne_of_beq_eq_false rfl) ?_
  refine Gx_aload_n (i := 0) dX2_reads_3 rfl rfl ?_
  refine Gx_iconst ⟨by decide, by decide⟩ dX2_reads_4 ?_
  refine pf_X2_138_22 dX2_reads_5 rfl rfl ?_
  have e0 : gUp v 38 11 0 = gUp (gUp v 38 11 0) 38 10 (v 38 10) := by
    funext b k
    unfold gUp
    by_cases hb : b = 38 <;> by_cases hk : k = 10 <;> simp [hb, hk]
  rw [e0]
  refine lp_X2_reads (v0 := v) (by omega) hs (by omega) f 0 (v 38 10) 0 (by omega) (by omega) (by omega) (by omega) (by omega) (by omega) (by omega) ?_
  intro m hm hm2
  have hnum := pDig_num (mB v r) f (v 38 10) 0 (by omega) (by omega) (by omega) (by omega) (by omega)
  refine Gx_iload dX2_reads_62 rfl ?_
  refine Gx_if_le (tgt := 84) dX2_reads_64 (by decide) (fun c64 => ?_) (fun c64 => ?_)
  · refine Gx_iconst ⟨by decide, by decide⟩ dX2_reads_84 ?_
    refine Gx_ireturn dX2_reads_85 (Or.inl rfl) ?_
    have e2 : gUp (gUp v 38 11 (pDig (mB v r) f (v 38 10) 0).2) 38 10 (pDig (mB v r) f (v 38 10) 0).1 38 11 = (pDig (mB v r) f (v 38 10) 0).2 := rfl
    first | exact k1 _ _ (if_pos ⟨by omega, by omega⟩) | exact k0 _ _ hnum (if_neg (by omega))
  · refine Gx_aload_n (i := 0) dX2_reads_67 rfl rfl ?_
    refine gf_X2_138_22 dX2_reads_68 rfl rfl ?_
    refine Gx_iload_n (i := 3) dX2_reads_71 rfl rfl ?_
    refine Gx_iload dX2_reads_72 rfl ?_
    refine cl_X2_104 dX2_reads_74 rfl ⟨(Nat.le_of_ble_eq_true rfl), (Nat.le_of_ble_eq_true rfl)⟩ rfl ?_
    refine ct_X2_in (fun c74 => ?_) (fun c74 => ?_)
    · refine Gx_if_eq (tgt := 84) dX2_reads_77 (by decide) (fun hz => absurd hz (by decide)) (fun _ => ?_)
      refine Gx_iconst ⟨by decide, by decide⟩ dX2_reads_80 ?_
      refine Gx_goto (tgt := 85) dX2_reads_81 (by decide) ?_
      refine Gx_ireturn dX2_reads_85 (Or.inr rfl) ?_
      have e2 : gUp (gUp v 38 11 (pDig (mB v r) f (v 38 10) 0).2) 38 10 (pDig (mB v r) f (v 38 10) 0).1 38 11 = (pDig (mB v r) f (v 38 10) 0).2 := rfl
      first | exact k1 _ _ (if_pos ⟨by omega, by omega⟩) | exact k0 _ _ hnum (if_neg (by omega))
    · refine Gx_if_eq (tgt := 84) dX2_reads_77 (by decide) (fun _ => ?_) (fun hz => absurd hz (by decide))
      refine Gx_iconst ⟨by decide, by decide⟩ dX2_reads_84 ?_
      refine Gx_ireturn dX2_reads_85 (Or.inl rfl) ?_
      have e2 : gUp (gUp v 38 11 (pDig (mB v r) f (v 38 10) 0).2) 38 10 (pDig (mB v r) f (v 38 10) 0).1 38 11 = (pDig (mB v r) f (v 38 10) 0).2 := rfl
      first | exact k1 _ _ (if_pos ⟨by omega, by omega⟩) | exact k0 _ _ hnum (if_neg (by omega))
theorem gUp_ne2 {v : gM} {a j x b k : Int} (h : ¬ (b = a ∧ k = j)) : gUp v a j x b k = v b k := by
  unfold gUp
  split
  · rw [if_neg (fun z => h ⟨by assumption, z⟩)]
  · rfl
theorem gUp_eq2 {v : gM} {a j x b k : Int} (h1 : b = a) (h2 : k = j) : gUp v a j x b k = x := by
  unfold gUp
  rw [if_pos h1, if_pos h2]
theorem mB_of {v v1 : gM} {r : Int} {b : pB} (h : ∀ j, v1 43 j = v 43 j) (h2 : ∀ j, v1 44 j = v 44 j) (hb : mB v r = b) : mB v1 r = b := by
  rw [← hb]
  funext i
  unfold mB sByte
  rw [h, h2]
theorem ct_X2_readsP {r F lo hi q0 : Int} {f : Nat} {b : pB} (hr : 0 ≤ r ∧ r ≤ 3) (hs : v 43 r ≤ 80) (hb : mB v r = b) (hq : v 38 10 = q0) (hp : 0 ≤ q0 ∧ q0 ≤ 900) (hF : F = f) (hf : f ≤ 2)
    (k1 : ∀ q x v1, pRd b f lo hi q0 = .ok (q, x) → q0 < q ∧ q ≤ q0 + f ∧ lo ≤ x ∧ x ≤ hi → (∀ a j, ¬ (a = 38 ∧ (j = 10 ∨ j = 11)) → v1 a j = v a j) → v1 38 10 = q → v1 38 11 = x → mB v1 r = b → v1 43 r ≤ 80 → Q (0, 1) v1 (gHd K) t)
    (k0 : ∀ q x v1, 0 ≤ x ∧ x ≤ 99 → pRd b f lo hi q0 = .error q → q0 ≤ q ∧ q ≤ q0 + f → (∀ a j, ¬ (a = 38 ∧ (j = 10 ∨ j = 11)) → v1 a j = v a j) → v1 38 10 = q → v1 38 11 = x → mB v1 r = b → v1 43 r ≤ 80 → Q (0, 0) v1 (gHd K) t) : Ctr Γ mX2_reads [(2, 38), (0, r), (0, F), (0, lo), (0, hi)] v (gHd K) t Q := by
  subst hq
  subst hb
  exact ct_X2_reads hr hs hp hF hf (fun q x h => k1 q x _ h (pRd_ok h) (fun a j hn => by rw [gUp_ne2 (by omega), gUp_ne2 (by omega)]) rfl rfl rfl hs) (fun q x h1 h => k0 q x _ h1 h (pRd_err h) (fun a j hn => by rw [gUp_ne2 (by omega), gUp_ne2 (by omega)]) rfl rfl rfl hs)
theorem ct_X2_signP {r c q0 : Int} {b : pB} (hr : 0 ≤ r ∧ r ≤ 3) (hs : v 43 r ≤ 80) (hb : mB v r = b) (hq : v 38 10 = q0) (hp : 0 ≤ q0 ∧ q0 ≤ 1000)
    (k1 : ∀ v1, pSg b c q0 = .ok (q0 + 1) → (∀ a j, ¬ (a = 38 ∧ j = 10) → v1 a j = v a j) → v1 38 10 = q0 + 1 → mB v1 r = b → v1 43 r ≤ 80 → Q (0, 1) v1 (gHd K) t)
    (k0 : ∀ v1, pSg b c q0 = .error q0 → (∀ a j, ¬ (a = 38 ∧ j = 10) → v1 a j = v a j) → v1 38 10 = q0 → mB v1 r = b → v1 43 r ≤ 80 → Q (0, 0) v1 (gHd K) t) : Ctr Γ mX2_sign [(2, 38), (0, r), (0, c)] v (gHd K) t Q := by
  subst hq
  subst hb
  refine ct_X2_sign hr hs hp (fun q h => ?_) (fun q h => ?_)
  · have e := pSg_ok h
    subst e
    exact k1 _ h (fun a j hn => gUp_ne2 hn) rfl rfl hs
  · have e := pSg_err h
    subst e
    exact k0 _ h (fun a j hn => gUp_ne2 hn) rfl rfl hs
end
