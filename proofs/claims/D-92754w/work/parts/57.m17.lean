/-! AcornYearsModel: passes -/
section
variable {Γ : gC} {v : gM} {K : gH} {t : Nat} {Q : gQ}
theorem sGv_congr {u v : gM} {i w h : Int} (h50 : ∀ k, v 50 k = u 50 k) (h57 : v 57 i = u 57 i) (h41 : v 38 41 = u 38 41) (h33 : v 38 33 = u 38 33) : sGv v i w h = sGv u i w h := by
  unfold sGv mDo
  rw [h57, h41, h33]
  simp only [h50]
theorem sSt_congr {u v : gM} {i h : Int} (h50 : ∀ k, v 50 k = u 50 k) (h57 : v 57 i = u 57 i) (h41 : v 38 41 = u 38 41) (h33 : v 38 33 = u 38 33) (h58 : v 58 i = u 58 i) : sSt v i h = sSt u i h := by
  unfold sSt mDo
  rw [h57, h41, h33, h58]
  simp only [h50]
/-- what a tree has in a year -/
def mGv (u : gM) (w h i : Int) : Int := if gHas (u 38 41) i = true then sGv u i w h else 0
theorem mGv_le {u : gM} {w h i : Int} (hw : 0 ≤ w ∧ w ≤ 2) (hT : oTr u) (h0 : 0 ≤ i) (h1 : i < u 38 33) : 0 ≤ mGv u w h i ∧ mGv u w h i ≤ 60 := by
  obtain ⟨g57, g58, g50, g51, g55, g56, g5, -⟩ := hT.2 i h0 h1
  have g51 := g51 w hw.1 hw.2
  unfold mGv sGv
  repeat' split
  all_goals omega
theorem ySum_le {f : Int → Int} {B : Int} : ∀ n : Nat, (∀ k : Int, 0 ≤ k → k < n → 0 ≤ f k ∧ f k ≤ B) → 0 ≤ ySum f n ∧ ySum f n ≤ B * n
  | 0, _ => by unfold ySum; simp
  | n + 1, h => by
    have h1 := ySum_le n (fun k h0 h2 => h k h0 (by omega))
    have h2 := h n (by omega) (by omega)
    have e : B * ((n + 1 : Nat) : Int) = B * (n : Int) + B := by
      rw [show ((n + 1 : Nat) : Int) = (n : Int) + 1 by omega, Int.mul_add, Int.mul_one]
    unfold ySum
    rw [e]
    omega
/-- behind i trees of the second loop -/
def oP2 (u v : gM) (w h i : Int) : Prop := (∀ a k, ¬ ((a = 38 ∧ k = 38) ∨ ((a = 58 ∨ a = 61) ∧ 0 ≤ k ∧ k < i)) → v a k = u a k) ∧ (∀ k, 0 ≤ k → k < i → v 61 k = mGv u w h k ∧ v 58 k = (if gHas (u 38 41) k = true then sSt u k h else u 58 k)) ∧ v 38 38 = ySum (mGv u w h) i.toNat

set_option maxHeartbeats 4000000 in
theorem lp_X2_passes2 {w h pg n : Int} {bc bs : Nat} {u : gM} (hw : 0 ≤ w ∧ w ≤ 2) (hT : oTr u) (hn : u 38 33 = n) (cont : ∀ v1, oP2 u v1 w h n → Gx Γ mX2_passes 217 [(2, 38), (0, w), (0, h), (0, pg), (0, n)] [] v1 (gHd K) t bc bs Q) : ∀ (j : Nat) (i : Int) (v : gM), 0 ≤ i → i + j = n → oP2 u v w h i → Gx Γ mX2_passes 155 [(2, 38), (0, w), (0, h), (0, pg), (0, i)] [] v (gHd K) t bc bs Q := by
  intro j
  induction j with
  | zero =>
    intro i v h0 h1 hP
    obtain ⟨hF, hV, hN⟩ := id hP
    have hv33 : v 38 33 = n := by rw [hF 38 33 (by omega)]; exact hn
    refine Gx_iload dX2_passes_155 rfl ?_
    refine Gx_aload_n (i := 0) dX2_passes_157 rfl rfl ?_
    refine gf_X2_203_22 dX2_passes_158 rfl rfl ?_
    refine Gx_icmp_ge (tgt := 217) dX2_passes_161 (by decide) (fun c161 => ?_) (fun c161 => ?_)
    · have e0 : i = n := by omega
      rw [e0] at hP ⊢
      exact cont v hP
    · exfalso
      omega
  | succ j ih =>
    intro i v h0 h1 hP
    obtain ⟨hF, hV, hN⟩ := id hP
    have hv33 : v 38 33 = n := by rw [hF 38 33 (by omega)]; exact hn
    refine Gx_iload dX2_passes_155 rfl ?_
    refine Gx_aload_n (i := 0) dX2_passes_157 rfl rfl ?_
    refine gf_X2_203_22 dX2_passes_158 rfl rfl ?_
    refine Gx_icmp_ge (tgt := 217) dX2_passes_161 (by decide) (fun c161 => ?_) (fun c161 => ?_)
    · exfalso
      omega
    · have hT1 := hT.1
      obtain ⟨g57, g58, g50, g51, g55, g56, g5, -, g54⟩ := hT.2 i h0 (by omega)
      have g51 := g51 w hw.1 hw.2
      have hgl := mGv_le (h := h) hw hT h0 (by omega)
      have hsl := ySum_le (f := mGv u w h) (B := 60) i.toNat (fun k k0 k1 => mGv_le hw hT k0 (by omega))
      have e50 : ∀ k, v 50 k = u 50 k := fun k => hF 50 k (by omega)
      have e57 : v 57 i = u 57 i := hF 57 i (by omega)
      have e41 : v 38 41 = u 38 41 := hF 38 41 (by omega)
      have e33 : v 38 33 = u 38 33 := hF 38 33 (by omega)
      have e58 : v 58 i = u 58 i := hF 58 i (by omega)
      have eg := sGv_congr (w := w) (h := h) e50 e57 e41 e33
      have es := sSt_congr (h := h) e50 e57 e41 e33 e58
      refine Gx_aload_n (i := 0) dX2_passes_164 rfl rfl ?_
      refine gf_X2_77_22 dX2_passes_165 rfl rfl ?_
      refine Gx_iload dX2_passes_168 rfl ?_
      refine Gx_aload_n (i := 0) dX2_passes_170 rfl rfl ?_
      refine gf_X2_242_22 dX2_passes_171 rfl rfl ?_
      refine Gx_iload dX2_passes_174 rfl ?_
      refine cl_X2_239 dX2_passes_176 rfl ⟨(Nat.le_of_ble_eq_true rfl), (Nat.le_of_ble_eq_true rfl)⟩ rfl ?_
      refine ct_X2_has (by omega) (fun c176 => ?_) (fun c176 => ?_)
      · rw [e41] at c176
        refine Gx_if_eq (tgt := 193) dX2_passes_179 (by decide) (fun hz => absurd hz (by decide)) (fun _ => ?_)
        refine Gx_aload_n (i := 0) dX2_passes_182 rfl rfl ?_
        refine Gx_iload dX2_passes_183 rfl ?_
        refine Gx_iload_n (i := 1) dX2_passes_185 rfl rfl ?_
        refine Gx_iload_n (i := 2) dX2_passes_186 rfl rfl ?_
        refine cl_X2_254 dX2_passes_187 rfl rfl ⟨(Nat.le_of_ble_eq_true rfl), (Nat.le_of_ble_eq_true rfl)⟩ rfl ?_
        refine ct_X2_sets (by omega) hw (by omega) (by rw [e57]; omega) (by rw [e58]; omega) (by rw [e57, e50]; omega) (by rw [e57, e50]; omega) (fun c187 => ?_) (fun c187 => ?_)
        · rw [e57, e50] at c187 ⊢
          refine Gx_goto (tgt := 194) dX2_passes_190 (by decide) ?_
          refine Gx_iastore dX2_passes_194 rfl (by first | omega | (simp (disch := omega) only [w32_id]; omega)) ?_
          refine Gx_aload_n (i := 0) dX2_passes_195 rfl rfl ?_
          refine Gx_dup (Nat.ne_of_beq_eq_false rfl) dX2_passes_196 ?_
          refine gf_X2_251_22 dX2_passes_197 rfl rfl ?_
          refine Gx_aload_n (i := 0) dX2_passes_200 rfl rfl ?_
          refine gf_X2_77_22 dX2_passes_201 rfl rfl ?_
          refine Gx_iload dX2_passes_204 rfl ?_
          refine Gx_iaload dX2_passes_206 rfl (by first | omega | (simp (disch := omega) only [w32_id]; omega)) ?_
          refine Gx_iadd dX2_passes_207 ?_
          refine pf_X2_251_22 dX2_passes_208 rfl rfl ?_
          refine Gx_iinc_4 dX2_passes_211 (Nat.le_of_ble_eq_true rfl) (Nat.ne_of_beq_eq_false rfl) ?_
          rw [w32_id (x := i + 1) (by omega) (by omega)]
          refine Gx_goto (tgt := 155) dX2_passes_214 (by decide) ?_
          try simp (disch := omega) only [w32_id]
          have hx := ySum_s (f := mGv u w h) h0
          have hgv : mGv u w h i = (if gHas (u 38 41) i = true then sGv u i w h else 0) := rfl
          refine Gx_name (fun vN eN => ?_)
          refine ih (i + 1) vN (by omega) (by omega) ⟨fun a k hn9 => ?_, fun k k0 k1 => ?_, ?_⟩
          · rw [eN]
            simp (disch := omega) only [gUp_ne2]
            exact hF a k (by omega)
          · by_cases hk : k = i
            · subst hk
              rw [hgv, eN]
              first
                | (have cz : ¬ (gHas (u 38 41) k = true) := by rw [c176]; decide
                   rw [if_neg cz, if_neg cz]
                   simp (disch := omega) only [gUp_ne2, gUp_eq2]
                   exact ⟨trivial, e58⟩)
                | (rw [if_pos c176, if_pos c176]
                   simp (disch := omega) only [gUp_ne2, gUp_eq2]
                   refine ⟨?_, ?_⟩
                   · first | trivial | rfl | (unfold sGv; rw [if_pos c187])
                   · first | trivial | rfl | (unfold sSt; rw [if_pos c187]; exact e58))
            · have hv := hV k k0 (by omega)
              rw [eN]
              simp (disch := omega) only [gUp_ne2]
              exact hv
          · rw [hx, hgv, eN]
            first
              | (have cz : ¬ (gHas (u 38 41) i = true) := by rw [c176]; decide
                 rw [if_neg cz]
                 simp (disch := omega) only [gUp_ne2, gUp_eq2]
                 rw [hN]
                 exact w32_id (by omega) (by omega))
              | (rw [hgv, if_pos c176] at hgl
                 have e1 : u 50 (7 * u 57 i + 1 + w) = sGv u i w h := by unfold sGv; rw [if_pos c187]
                 rw [if_pos c176]
                 simp (disch := omega) only [gUp_ne2, gUp_eq2]
                 rw [hN, e1]
                 exact w32_id (by omega) (by omega))
              | (rw [hgv, if_pos c176] at hgl
                 rw [if_pos c176]
                 simp (disch := omega) only [gUp_ne2, gUp_eq2]
                 rw [hN]
                 exact w32_id (by omega) (by omega))
        · rw [e57, e50] at c187
          rw [eg, es]
          refine Gx_goto (tgt := 194) dX2_passes_190 (by decide) ?_
          refine Gx_iastore dX2_passes_194 rfl (by first | omega | (simp (disch := omega) only [w32_id]; omega)) ?_
          refine Gx_aload_n (i := 0) dX2_passes_195 rfl rfl ?_
          refine Gx_dup (Nat.ne_of_beq_eq_false rfl) dX2_passes_196 ?_
          refine gf_X2_251_22 dX2_passes_197 rfl rfl ?_
          refine Gx_aload_n (i := 0) dX2_passes_200 rfl rfl ?_
          refine gf_X2_77_22 dX2_passes_201 rfl rfl ?_
          refine Gx_iload dX2_passes_204 rfl ?_
          refine Gx_iaload dX2_passes_206 rfl (by first | omega | (simp (disch := omega) only [w32_id]; omega)) ?_
          refine Gx_iadd dX2_passes_207 ?_
          refine pf_X2_251_22 dX2_passes_208 rfl rfl ?_
          refine Gx_iinc_4 dX2_passes_211 (Nat.le_of_ble_eq_true rfl) (Nat.ne_of_beq_eq_false rfl) ?_
          rw [w32_id (x := i + 1) (by omega) (by omega)]
          refine Gx_goto (tgt := 155) dX2_passes_214 (by decide) ?_
          try simp (disch := omega) only [w32_id]
          have hx := ySum_s (f := mGv u w h) h0
          have hgv : mGv u w h i = (if gHas (u 38 41) i = true then sGv u i w h else 0) := rfl
          refine Gx_name (fun vN eN => ?_)
          refine ih (i + 1) vN (by omega) (by omega) ⟨fun a k hn9 => ?_, fun k k0 k1 => ?_, ?_⟩
          · rw [eN]
            simp (disch := omega) only [gUp_ne2]
            exact hF a k (by omega)
          · by_cases hk : k = i
            · subst hk
              rw [hgv, eN]
              first
                | (have cz : ¬ (gHas (u 38 41) k = true) := by rw [c176]; decide
                   rw [if_neg cz, if_neg cz]
                   simp (disch := omega) only [gUp_ne2, gUp_eq2]
                   exact ⟨trivial, e58⟩)
                | (rw [if_pos c176, if_pos c176]
                   simp (disch := omega) only [gUp_ne2, gUp_eq2]
                   refine ⟨?_, ?_⟩
                   · first | trivial | rfl | (unfold sGv; rw [if_pos c187])
                   · first | trivial | rfl | (unfold sSt; rw [if_pos c187]; exact e58))
            · have hv := hV k k0 (by omega)
              rw [eN]
              simp (disch := omega) only [gUp_ne2]
              exact hv
          · rw [hx, hgv, eN]
            first
              | (have cz : ¬ (gHas (u 38 41) i = true) := by rw [c176]; decide
                 rw [if_neg cz]
                 simp (disch := omega) only [gUp_ne2, gUp_eq2]
                 rw [hN]
                 exact w32_id (by omega) (by omega))
              | (rw [hgv, if_pos c176] at hgl
                 have e1 : u 50 (7 * u 57 i + 1 + w) = sGv u i w h := by unfold sGv; rw [if_pos c187]
                 rw [if_pos c176]
                 simp (disch := omega) only [gUp_ne2, gUp_eq2]
                 rw [hN, e1]
                 exact w32_id (by omega) (by omega))
              | (rw [hgv, if_pos c176] at hgl
                 rw [if_pos c176]
                 simp (disch := omega) only [gUp_ne2, gUp_eq2]
                 rw [hN]
                 exact w32_id (by omega) (by omega))
      · rw [e41] at c176
        refine Gx_if_eq (tgt := 193) dX2_passes_179 (by decide) (fun _ => ?_) (fun hz => absurd hz (by decide))
        refine Gx_iconst ⟨by decide, by decide⟩ dX2_passes_193 ?_
        refine Gx_iastore dX2_passes_194 rfl (by first | omega | (simp (disch := omega) only [w32_id]; omega)) ?_
        refine Gx_aload_n (i := 0) dX2_passes_195 rfl rfl ?_
        refine Gx_dup (Nat.ne_of_beq_eq_false rfl) dX2_passes_196 ?_
        refine gf_X2_251_22 dX2_passes_197 rfl rfl ?_
        refine Gx_aload_n (i := 0) dX2_passes_200 rfl rfl ?_
        refine gf_X2_77_22 dX2_passes_201 rfl rfl ?_
        refine Gx_iload dX2_passes_204 rfl ?_
        refine Gx_iaload dX2_passes_206 rfl (by first | omega | (simp (disch := omega) only [w32_id]; omega)) ?_
        refine Gx_iadd dX2_passes_207 ?_
        refine pf_X2_251_22 dX2_passes_208 rfl rfl ?_
        refine Gx_iinc_4 dX2_passes_211 (Nat.le_of_ble_eq_true rfl) (Nat.ne_of_beq_eq_false rfl) ?_
        rw [w32_id (x := i + 1) (by omega) (by omega)]
        refine Gx_goto (tgt := 155) dX2_passes_214 (by decide) ?_
        try simp (disch := omega) only [w32_id]
        have hx := ySum_s (f := mGv u w h) h0
        have hgv : mGv u w h i = (if gHas (u 38 41) i = true then sGv u i w h else 0) := rfl
        refine Gx_name (fun vN eN => ?_)
        refine ih (i + 1) vN (by omega) (by omega) ⟨fun a k hn9 => ?_, fun k k0 k1 => ?_, ?_⟩
        · rw [eN]
          simp (disch := omega) only [gUp_ne2]
          exact hF a k (by omega)
        · by_cases hk : k = i
          · subst hk
            rw [hgv, eN]
            first
              | (have cz : ¬ (gHas (u 38 41) k = true) := by rw [c176]; decide
                 rw [if_neg cz, if_neg cz]
                 simp (disch := omega) only [gUp_ne2, gUp_eq2]
                 exact ⟨trivial, e58⟩)
              | (rw [if_pos c176, if_pos c176]
                 simp (disch := omega) only [gUp_ne2, gUp_eq2]
                 refine ⟨?_, ?_⟩
                 · first | trivial | rfl | (unfold sGv; rw [if_pos c187])
                 · first | trivial | rfl | (unfold sSt; rw [if_pos c187]; exact e58))
          · have hv := hV k k0 (by omega)
            rw [eN]
            simp (disch := omega) only [gUp_ne2]
            exact hv
        · rw [hx, hgv, eN]
          first
            | (have cz : ¬ (gHas (u 38 41) i = true) := by rw [c176]; decide
               rw [if_neg cz]
               simp (disch := omega) only [gUp_ne2, gUp_eq2]
               rw [hN]
               exact w32_id (by omega) (by omega))
            | (rw [hgv, if_pos c176] at hgl
               have e1 : u 50 (7 * u 57 i + 1 + w) = sGv u i w h := by unfold sGv; rw [if_pos c187]
               rw [if_pos c176]
               simp (disch := omega) only [gUp_ne2, gUp_eq2]
               rw [hN, e1]
               exact w32_id (by omega) (by omega))
            | (rw [hgv, if_pos c176] at hgl
               rw [if_pos c176]
               simp (disch := omega) only [gUp_ne2, gUp_eq2]
               rw [hN]
               exact w32_id (by omega) (by omega))
theorem oTr_of {v v1 : gM} (hT : oTr v) (h33 : v1 38 33 = v 38 33) (h57 : ∀ k, 0 ≤ k → k < v 38 33 → v1 57 k = v 57 k) (h50 : ∀ k, v1 50 k = v 50 k) (h58 : ∀ k, 0 ≤ k → k < v 38 33 → 0 ≤ v1 58 k ∧ v1 58 k ≤ 60) : oTr v1 := by
  refine ⟨by rw [h33]; exact hT.1, fun i h0 h1 => ?_⟩
  rw [h33] at h1
  have h := hT.2 i h0 h1
  have h2 := h58 i h0 h1
  rw [h57 i h0 h1]
  simp only [h50]
  exact ⟨h.1, h2, h.2.2⟩
theorem mG_le {v : gM} {w i : Int} (hw : 0 ≤ w ∧ w ≤ 2) (hT : oTr v) (h0 : 0 ≤ i) (h1 : i < v 38 33) : 0 ≤ mG v w i ∧ mG v w i ≤ 60 := by
  obtain ⟨g57, g58, g50, g51, g55, g56, g5, -⟩ := hT.2 i h0 h1
  have g51 := g51 w hw.1 hw.2
  unfold mG
  split <;> omega
/-- a year of the model, in its three steps -/
abbrev yS0 (v : gM) : gM := gUp (gUp (gUp v 38 31 (v 38 31 + 1)) 38 41 0) 38 40 0
def oYear (v v3 : gM) (w h pg : Int) : Prop := ∃ v1 v2, oP1 (yS0 v) v1 w (v 38 33) ∧ oP2 (gUp v1 38 38 0) v2 w h (v 38 33) ∧ oEaten v2 v3 (if pg = 0 then ySum (mGv (gUp v1 38 38 0) w h) (v 38 33).toNat else 0)
theorem oTr_u {v v1 : gM} {w : Int} (hw : 0 ≤ w ∧ w ≤ 2) (hT : oTr v) (h : oP1 (yS0 v) v1 w (v 38 33)) : oTr (gUp v1 38 38 0) := by
  have hT0 : oTr (yS0 v) := oTr_of hT rfl (fun k _ _ => rfl) (fun k => rfl) (fun k h0 h1 => (hT.2 k h0 h1).2.1)
  refine oTr_of hT0 ?_ ?_ ?_ ?_
  · rw [gUp_ne2 (by omega)]
    exact h.1 38 33 (by omega)
  · intro k h0 h1
    rw [gUp_ne2 (by omega)]
    exact h.1 57 k (by omega)
  · intro k
    rw [gUp_ne2 (by omega)]
    exact h.1 50 k (by omega)
  · intro k h0 h1
    have h1 : k < v 38 33 := h1
    rw [gUp_ne2 (by omega), (h.2.1 k h0 h1).1]
    exact mG_le hw hT0 h0 h1
theorem oEat_of {v v1 : gM} (hE : oEat v) (h22 : v1 38 22 = v 38 22) (h51 : ∀ k, v1 51 k = v 51 k) (h52 : ∀ k, v1 52 k = v 52 k) (h53 : ∀ k, v1 53 k = v 53 k) (h56 : ∀ k, v1 56 k = v 56 k) : oEat v1 := by
  unfold oEat
  rw [h22]
  simp only [h51, h52, h53, h56]
  exact hE

set_option maxHeartbeats 4000000 in
theorem ct_X2_passes {w h pg : Int} (hw : 0 ≤ w ∧ w ≤ 2) (hy : 0 ≤ v 38 31 ∧ v 38 31 ≤ 100000) (hT : oTr v) (hE : oEat v) (hh : 0 ≤ v 38 26 ∧ v 38 26 ≤ 99) (hf : 0 ≤ v 38 27 ∧ v 38 27 ≤ 12) (k : ∀ v3, oYear v v3 w h pg → Q (9, 0) v3 (gHd K) t) : Ctr Γ mX2_passes [(2, 38), (0, w), (0, h), (0, pg)] v (gHd K) t Q := by
  refine Ctr.ofG (ls := [(2, 38), (0, w), (0, h), (0, pg), (9, 0)]) rfl rfl rfl rfl rfl ?_
  refine Gx_aload_n (i := 0) dX2_passes_0 rfl rfl ?_
  refine Gx_dup (Nat.ne_of_beq_eq_false rfl) dX2_passes_1 ?_
  refine gf_X2_206_22 dX2_passes_2 rfl rfl ?_
  refine Gx_iconst ⟨by decide, by decide⟩ dX2_passes_5 ?_
  refine Gx_iadd dX2_passes_6 ?_
  try simp (disch := omega) only [w32_id]
  refine pf_X2_206_22 dX2_passes_7 rfl rfl ?_
  refine Gx_aload_n (i := 0) dX2_passes_10 rfl rfl ?_
  refine Gx_iconst ⟨by decide, by decide⟩ dX2_passes_11 ?_
  refine pf_X2_242_22 dX2_passes_12 rfl rfl ?_
  refine Gx_aload_n (i := 0) dX2_passes_15 rfl rfl ?_
  refine Gx_iconst ⟨by decide, by decide⟩ dX2_passes_16 ?_
  refine pf_X2_245_22 dX2_passes_17 rfl rfl ?_
  refine Gx_iconst ⟨by decide, by decide⟩ dX2_passes_20 ?_
  refine Gx_istore_4 dX2_passes_21 (Nat.le_of_ble_eq_true rfl) (Nat.ne_of_beq_eq_false rfl) ?_
  have hn := hT.1
  refine lp_X2_passes1 (v0 := yS0 v) (n := v 38 33) hw (oTr_of hT rfl (fun k _ _ => rfl) (fun k => rfl) (fun k h0 h1 => (hT.2 k h0 h1).2.1)) rfl (fun v1 hp1 => ?_) (v 38 33).toNat 0 (yS0 v) (by omega) (by omega) ⟨fun a k _ => rfl, fun k k0 k1 => by omega, rfl, fun k k0 k1 => ?_⟩
  rotate_left
  · show gHas 0 k = _
    rw [has_0, decide_eq_false (by omega)]
    rfl
  refine Gx_aload_n (i := 0) dX2_passes_147 rfl rfl ?_
  refine Gx_iconst ⟨by decide, by decide⟩ dX2_passes_148 ?_
  refine pf_X2_251_22 dX2_passes_149 rfl rfl ?_
  refine Gx_iconst ⟨by decide, by decide⟩ dX2_passes_152 ?_
  refine Gx_istore_4 dX2_passes_153 (Nat.le_of_ble_eq_true rfl) (Nat.ne_of_beq_eq_false rfl) ?_
  have hT0 : oTr (yS0 v) := oTr_of hT rfl (fun k _ _ => rfl) (fun k => rfl) (fun k h0 h1 => (hT.2 k h0 h1).2.1)
  have hTu := oTr_u hw hT hp1
  have h33 : gUp v1 38 38 0 38 33 = v 38 33 := by
    rw [gUp_ne2 (by omega)]
    exact hp1.1 38 33 (by omega)
  refine lp_X2_passes2 (u := gUp v1 38 38 0) hw hTu h33 (fun v2 h2 => ?_) (v 38 33).toNat 0 (gUp v1 38 38 0) (by omega) (by omega) ⟨fun a k _ => rfl, fun k k0 k1 => by omega, by rw [gUp_eq2 rfl rfl]; rfl⟩
  have hsl := ySum_le (f := mGv (gUp v1 38 38 0) w h) (B := 60) (v 38 33).toNat (fun k k0 k1 => mGv_le hw hTu k0 (by rw [h33]; omega))
  have hc : ∀ a k, ¬ ((a = 38 ∧ (k = 38 ∨ k = 40 ∨ k = 41 ∨ k = 31)) ∨ a = 58 ∨ a = 59 ∨ a = 60 ∨ a = 61) → v2 a k = v a k := by
    intro a k hn9
    rw [h2.1 a k (by omega), gUp_ne2 (by omega), hp1.1 a k (by omega)]
    show gUp (gUp (gUp v 38 31 (v 38 31 + 1)) 38 41 0) 38 40 0 a k = _
    rw [gUp_ne2 (by omega), gUp_ne2 (by omega), gUp_ne2 (by omega)]
  have hE2 : oEat v2 := oEat_of hE (hc 38 22 (by omega)) (fun k => hc 51 k (by omega)) (fun k => hc 52 k (by omega)) (fun k => hc 53 k (by omega)) (fun k => hc 56 k (by omega))
  have hh2 : 0 ≤ v2 38 26 ∧ v2 38 26 ≤ 99 := by rw [hc 38 26 (by omega)]; exact hh
  have hf2 : 0 ≤ v2 38 27 ∧ v2 38 27 ≤ 12 := by rw [hc 38 27 (by omega)]; exact hf
  refine Gx_aload_n (i := 0) dX2_passes_217 rfl rfl ?_
  refine Gx_iload_n (i := 3) dX2_passes_218 rfl rfl ?_
  refine Gx_if_eq (tgt := 226) dX2_passes_219 (by decide) (fun c219 => ?_) (fun c219 => ?_)
  · refine Gx_aload_n (i := 0) dX2_passes_226 rfl rfl ?_
    refine gf_X2_251_22 dX2_passes_227 rfl rfl ?_
    refine cl_X2_258 dX2_passes_230 rfl rfl ⟨(Nat.le_of_ble_eq_true rfl), (Nat.le_of_ble_eq_true rfl)⟩ rfl ?_
    refine ct_X2_eaten hE2 hh2 hf2 (by first | omega | (rw [h2.2.2]; omega)) (fun v3 h3 => ?_)
    refine Gx_return dX2_passes_233 rfl ?_
    refine k v3 ⟨v1, v2, hp1, h2, ?_⟩
    first
      | (rw [if_pos (by omega), ← h2.2.2]; exact h3)
      | (rw [if_neg (by omega)]; exact h3)
  · refine Gx_iconst ⟨by decide, by decide⟩ dX2_passes_222 ?_
    refine Gx_goto (tgt := 230) dX2_passes_223 (by decide) ?_
    refine cl_X2_258 dX2_passes_230 rfl rfl ⟨(Nat.le_of_ble_eq_true rfl), (Nat.le_of_ble_eq_true rfl)⟩ rfl ?_
    refine ct_X2_eaten hE2 hh2 hf2 (by first | omega | (rw [h2.2.2]; omega)) (fun v3 h3 => ?_)
    refine Gx_return dX2_passes_233 rfl ?_
    refine k v3 ⟨v1, v2, hp1, h2, ?_⟩
    first
      | (rw [if_pos (by omega), ← h2.2.2]; exact h3)
      | (rw [if_neg (by omega)]; exact h3)
end
