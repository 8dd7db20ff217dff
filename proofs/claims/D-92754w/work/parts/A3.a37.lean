/-! AcornYears: step -/
section
variable {Γ : gC} {v : gM} {K : gH} {t : Nat} {Q : gQ}
theorem aN_17f {v v1 : gM} {h : gH} (hW : aWf v h) (hF : aFr v v1) (h2 : v1 17 2 = v 17 2) (h18 : ∀ k, v1 18 k = v 18 k) (h19 : ∀ k, v1 19 k = v 19 k) : aN v1 h 17 = aN v h 17 := by
  funext a k
  by_cases c1 : a = 38 ∧ k = 31
  · rw [c1.1, c1.2]
    exact h2
  · by_cases c6 : a = 56
    · subst c6
      show (if 0 ≤ k ∧ k < v1 0 12 then v1 19 k else 0) = (if 0 ≤ k ∧ k < v 0 12 then v 19 k else 0)
      rw [hF 0 12 (by omega), h19]
    · by_cases c8 : a = 58
      · subst c8
        show (if 0 ≤ k ∧ k < v1 0 32 then v1 18 k else 0) = (if 0 ≤ k ∧ k < v 0 32 then v 18 k else 0)
        rw [hF 0 32 (by omega), h18]
      · exact aN_congr hW hF a k (by omega)
theorem a63_f {v v1 : gM} {h : gH} (hW : aWf v h) (hF : aFr v v1) (h6 : a63 v h) : a63 v1 h := by
  intro s s0 s1 s6
  have e7 : v1 0 7 = v 0 7 := hF 0 7 (by omega)
  rw [e7] at s1 s6 ⊢
  have w7 := hW.1.1
  have eo : v1 (v 0 7) s = v (v 0 7) s := hF _ _ (by omega)
  rw [eo] at s6 ⊢
  have g66 := (hW.2.1 s s0 s1).1
  rw [hF (v (v 0 7) s) 3 (by omega)]
  exact h6 s s0 s1 s6
theorem wOr3 {x : Int} (h : 0 ≤ x ∧ x ≤ 3) : wOr x 0 = x ∧ wOr x 1 = x / 2 * 2 + 1 ∧ wOr x 2 = x % 2 + 2 := by
  rcases (by omega : x = 0 ∨ x = 1 ∨ x = 2 ∨ x = 3) with z | z | z | z <;> subst z <;> decide +kernel
/-- the halves that bloom among the first i: 1 the set's, 2 the other -/
def aHb (B : Int → Bool) (hf : Int) : Nat → Int
  | 0 => 0
  | n + 1 => if B n = true then (if gHas hf n = true then aHb B hf n / 2 * 2 + 1 else aHb B hf n % 2 + 2) else aHb B hf n
theorem aHb_ok {B : Int → Bool} {hf : Int} : ∀ n : Nat, (0 ≤ aHb B hf n ∧ aHb B hf n ≤ 3) ∧ (aHb B hf n % 2 = 1 ↔ ∃ i, (0 ≤ i ∧ i < (n : Int)) ∧ B i = true ∧ gHas hf i = true) ∧ (2 ≤ aHb B hf n ↔ ∃ i, (0 ≤ i ∧ i < (n : Int)) ∧ B i = true ∧ gHas hf i = false)
  | 0 => by
    have e : aHb B hf 0 = 0 := rfl
    rw [e]
    exact ⟨⟨by decide, by decide⟩, ⟨fun h => absurd h (by decide), fun ⟨i, hi, _⟩ => absurd hi.2 (by omega)⟩, ⟨fun h => absurd h (by decide), fun ⟨i, hi, _⟩ => absurd hi.2 (by omega)⟩⟩
  | n + 1 => by
    obtain ⟨g1, g2, g3⟩ := aHb_ok (B := B) (hf := hf) n
    have up : ∀ P : Int → Prop, (∃ i, (0 ≤ i ∧ i < ((n + 1 : Nat) : Int)) ∧ P i) ↔ ((∃ i, (0 ≤ i ∧ i < (n : Int)) ∧ P i) ∨ P n) := fun P => by
      constructor
      · rintro ⟨i, hi, hp⟩
        by_cases z : i = n
        · rw [z] at hp; exact Or.inr hp
        · exact Or.inl ⟨i, ⟨hi.1, by omega⟩, hp⟩
      · rintro (⟨i, hi, hp⟩ | hp)
        · exact ⟨i, ⟨hi.1, by omega⟩, hp⟩
        · exact ⟨n, ⟨by omega, by omega⟩, hp⟩
    rw [up, up]
    unfold aHb
    cases hB : B (n : Int) with
    | false =>
      rw [if_neg (by decide)]
      refine ⟨g1, ?_, ?_⟩
      · rw [g2]
        exact ⟨Or.inl, fun z => z.resolve_right (fun y => absurd y.1 (by decide))⟩
      · rw [g3]
        exact ⟨Or.inl, fun z => z.resolve_right (fun y => absurd y.1 (by decide))⟩
    | true =>
      rw [if_pos rfl]
      cases hH : gHas hf (n : Int) with
      | true =>
        rw [if_pos rfl]
        refine ⟨by omega, ⟨fun _ => Or.inr ⟨rfl, rfl⟩, fun _ => by omega⟩, ?_⟩
        rw [show (2 ≤ aHb B hf n / 2 * 2 + 1) ↔ 2 ≤ aHb B hf n by omega, g3]
        exact ⟨Or.inl, fun z => z.resolve_right (fun y => absurd y.2 (by decide))⟩
      | false =>
        rw [if_neg (by decide)]
        refine ⟨by omega, ?_, ⟨fun _ => Or.inr ⟨rfl, rfl⟩, fun _ => by omega⟩⟩
        rw [show ((aHb B hf n % 2 + 2) % 2 = 1) ↔ aHb B hf n % 2 = 1 by omega, g2]
        exact ⟨Or.inl, fun z => z.resolve_right (fun y => absurd y.2 (by decide))⟩
theorem aHb_cr {u : gM} {hf : Int} : (aHb (yB u (yMay u)) hf (u 38 33).toNat = 1 ∨ aHb (yB u (yMay u)) hf (u 38 33).toNat = 2) ↔ yCr u hf := by
  obtain ⟨g1, g2, g3⟩ := aHb_ok (B := yB u (yMay u)) (hf := hf) (u 38 33).toNat
  have er : ∀ P : Int → Prop, (∃ i, (0 ≤ i ∧ i < ((u 38 33).toNat : Int)) ∧ P i) ↔ ∃ i, (0 ≤ i ∧ i < u 38 33) ∧ P i := fun P => by
    constructor
    · rintro ⟨i, hi, hp⟩
      exact ⟨i, ⟨hi.1, by omega⟩, hp⟩
    · rintro ⟨i, hi, hp⟩
      exact ⟨i, ⟨hi.1, by omega⟩, hp⟩
  rw [er] at g2 g3
  unfold yCr
  rw [← g2, ← g3]
  omega

set_option maxHeartbeats 1000000 in
theorem lp_X0_step1 {hf n fi i : Int} {B : Int → Bool} {bc bs : Nat} (h24 : v 0 32 ≤ 24) (r26 : ∀ i, 0 ≤ i → i < v 0 32 → v 26 i = if B i = true then 1 else 0) (cont : Gx Γ mX0_step 123 [(2, 0), (0, hf), (0, n), (0, fi), (0, i), (0, aHb B hf (v 0 32).toNat), (0, v 0 32)] [] v (gHd K) t bc bs Q) : ∀ (j : Nat) (x : Int), 0 ≤ x → x + j = v 0 32 → Gx Γ mX0_step 72 [(2, 0), (0, hf), (0, n), (0, fi), (0, i), (0, aHb B hf x.toNat), (0, x)] [] v (gHd K) t bc bs Q := by
  intro j
  induction j with
  | zero =>
    intro x h0 h1
    refine Gx_iload dX0_step_72 rfl ?_
    refine Gx_aload_n (i := 0) dX0_step_74 rfl rfl ?_
    refine gf_X0_276_20 dX0_step_75 rfl rfl ?_
    refine Gx_icmp_ge (tgt := 123) dX0_step_78 (by decide) (fun c78 => ?_) (fun c78 => ?_)
    · have e0 : x = v 0 32 := by omega
      rw [e0]
      exact cont
    · exfalso
      omega
  | succ j ih =>
    intro x h0 h1
    obtain ⟨g1, -, -⟩ := aHb_ok (B := B) (hf := hf) x.toNat
    obtain ⟨o0, o1, o2⟩ := wOr3 g1
    have q26 := r26 x h0 (by omega)
    have es : aHb B hf (x + 1).toNat = if B x = true then (if gHas hf x = true then aHb B hf x.toNat / 2 * 2 + 1 else aHb B hf x.toNat % 2 + 2) else aHb B hf x.toNat := by
      rw [show (x + 1).toNat = x.toNat + 1 by omega]
      show (if B (x.toNat : Int) = true then (if gHas hf (x.toNat : Int) = true then _ else _) else _) = _
      rw [show (x.toNat : Int) = x by omega]
    have hBt : v 26 x ≠ 0 → B x = true := fun w => by
      by_cases z : B x = true
      · exact z
      · rw [if_neg z] at q26
        omega
    have hBf : v 26 x = 0 → ¬ B x = true := fun w z => by
      rw [if_pos z] at q26
      omega
    refine Gx_iload dX0_step_72 rfl ?_
    refine Gx_aload_n (i := 0) dX0_step_74 rfl rfl ?_
    refine gf_X0_276_20 dX0_step_75 rfl rfl ?_
    refine Gx_icmp_ge (tgt := 123) dX0_step_78 (by decide) (fun c78 => ?_) (fun c78 => ?_)
    · exfalso
      omega
    · refine Gx_iload dX0_step_81 rfl ?_
      refine Gx_aload_n (i := 0) dX0_step_83 rfl rfl ?_
      refine gf_X0_90_20 dX0_step_84 rfl rfl ?_
      refine gf_X0_352_21 dX0_step_87 rfl rfl ?_
      refine Gx_iload dX0_step_90 rfl ?_
      rw [show (23 : Int) + 3 = 26 from rfl]
      refine Gx_zaload dX0_step_92 rfl (by first | omega | (simp (disch := omega) only [w32_id]; omega)) ?_
      refine Gx_if_eq (tgt := 113) dX0_step_93 (by decide) (fun c93 => ?_) (fun c93 => ?_)
      · refine Gx_iconst ⟨by decide, by decide⟩ dX0_step_113 ?_
        refine Gx_ior dX0_step_114 ?_
        refine Gx_istore_5 dX0_step_115 (Nat.le_of_ble_eq_true rfl) (Nat.ne_of_beq_eq_false rfl) ?_
        refine Gx_iinc_6 dX0_step_117 (Nat.le_of_ble_eq_true rfl) (Nat.ne_of_beq_eq_false rfl) ?_
        try simp (disch := omega) only [w32_id]
        refine Gx_goto (tgt := 72) dX0_step_120 (by decide) ?_
        have hi := ih (x + 1) (by omega) (by omega)
        rw [es] at hi
        first
        | (rw [if_pos (hBt (by omega)), if_pos hh] at hi
           rw [o1]
           exact hi)
        | (rw [if_pos (hBt (by omega)), if_neg (by rw [hh]; decide)] at hi
           rw [o2]
           exact hi)
        | (rw [if_neg (hBf (by omega))] at hi
           rw [o0]
           exact hi)
      · refine Gx_iload_n (i := 1) dX0_step_96 rfl rfl ?_
        refine Gx_iload dX0_step_97 rfl ?_
        refine cl_X0_345 dX0_step_99 rfl ⟨(Nat.le_of_ble_eq_true rfl), (Nat.le_of_ble_eq_true rfl)⟩ rfl ?_
        refine ct_X0_has (by omega) (fun hh => ?_) (fun hh => ?_)
        · refine Gx_if_eq (tgt := 109) dX0_step_102 (by decide) (fun hz => absurd hz (by decide)) (fun _ => ?_)
          refine Gx_iconst ⟨by decide, by decide⟩ dX0_step_105 ?_
          refine Gx_goto (tgt := 114) dX0_step_106 (by decide) ?_
          refine Gx_ior dX0_step_114 ?_
          refine Gx_istore_5 dX0_step_115 (Nat.le_of_ble_eq_true rfl) (Nat.ne_of_beq_eq_false rfl) ?_
          refine Gx_iinc_6 dX0_step_117 (Nat.le_of_ble_eq_true rfl) (Nat.ne_of_beq_eq_false rfl) ?_
          try simp (disch := omega) only [w32_id]
          refine Gx_goto (tgt := 72) dX0_step_120 (by decide) ?_
          have hi := ih (x + 1) (by omega) (by omega)
          rw [es] at hi
          first
          | (rw [if_pos (hBt (by omega)), if_pos hh] at hi
             rw [o1]
             exact hi)
          | (rw [if_pos (hBt (by omega)), if_neg (by rw [hh]; decide)] at hi
             rw [o2]
             exact hi)
          | (rw [if_neg (hBf (by omega))] at hi
             rw [o0]
             exact hi)
        · refine Gx_if_eq (tgt := 109) dX0_step_102 (by decide) (fun _ => ?_) (fun hz => absurd hz (by decide))
          refine Gx_iconst ⟨by decide, by decide⟩ dX0_step_109 ?_
          refine Gx_goto (tgt := 114) dX0_step_110 (by decide) ?_
          refine Gx_ior dX0_step_114 ?_
          refine Gx_istore_5 dX0_step_115 (Nat.le_of_ble_eq_true rfl) (Nat.ne_of_beq_eq_false rfl) ?_
          refine Gx_iinc_6 dX0_step_117 (Nat.le_of_ble_eq_true rfl) (Nat.ne_of_beq_eq_false rfl) ?_
          try simp (disch := omega) only [w32_id]
          refine Gx_goto (tgt := 72) dX0_step_120 (by decide) ?_
          have hi := ih (x + 1) (by omega) (by omega)
          rw [es] at hi
          first
          | (rw [if_pos (hBt (by omega)), if_pos hh] at hi
             rw [o1]
             exact hi)
          | (rw [if_pos (hBt (by omega)), if_neg (by rw [hh]; decide)] at hi
             rw [o2]
             exact hi)
          | (rw [if_neg (hBf (by omega))] at hi
             rw [o0]
             exact hi)
theorem bef_c {P : Int → Prop} {q : Int} (h : ∀ z, 1 ≤ z → z < q → ¬ P z) (hp : ¬ P q) : ∀ z, 1 ≤ z → z < q + 1 → ¬ P z := by
  intro z z0 z1
  by_cases g : z = q
  · rw [g]; exact hp
  · exact h z z0 (by omega)

set_option maxHeartbeats 4000000 in
theorem lp_X0_step2 {hf n : Int} {bc bs : Nat} {v0 : gM} (hH : aHy v0 (gHd K)) (h36 : v0 0 36 = -9) (hhf : 1 ≤ hf) (hn : 1 ≤ n ∧ n ≤ 200) (k1 : ∀ (v1 : gM) (r : Int), aScr v0 v1 → oStp (aN v0 (gHd K) 17) hf n r → Q (0, r) v1 (gHd K) t) : ∀ (j : Nat) (i : Int) (v : gM) (z5 z6 : gV), 1 ≤ i → i + j = n + 1 → (∀ a k, ¬ (aSq a k ∨ (a = 0 ∧ k = 36)) → v a k = v0 a k) → v 0 36 = hf → aN v (gHd K) 23 = yItH (aN v0 (gHd K) 17) hf (i - 1).toNat → (∀ z, 1 ≤ z → z < i → ¬ yCr (yItH (aN v0 (gHd K) 17) hf (z - 1).toNat) hf) → Gx Γ mX0_step 52 [(2, 0), (0, hf), (0, n), (0, -9), (0, i), z5, z6] [] v (gHd K) t bc bs Q := by
  intro j
  induction j with
  | zero =>
    intro i v z5 z6 h0 h1 hF e36 hN hB
    obtain ⟨g1, g2, g3, g4, g5, g6⟩ := hH
    refine Gx_iload dX0_step_52 rfl ?_
    refine Gx_iload_n (i := 2) dX0_step_54 rfl rfl ?_
    refine Gx_icmp_gt (tgt := 149) dX0_step_55 (by decide) (fun c55 => ?_) (fun c55 => ?_)
    · refine Gx_aload_n (i := 0) dX0_step_149 rfl rfl ?_
      refine Gx_bipush dX0_step_150 ⟨by decide, by decide⟩ ?_
      refine pf_X0_96_20 dX0_step_152 rfl rfl ?_
      refine Gx_iload_n (i := 3) dX0_step_155 rfl rfl ?_
      refine Gx_ireturn dX0_step_156 trivial ?_
      refine k1 _ _ (fun a k hk => by
        by_cases g : a = 0 ∧ k = 36
        · rw [gUp_eq2 g.1 g.2, g.1, g.2, h36]
        · rw [gUp_ne2 g]; exact hF a k (by omega)) (Or.inl ⟨rfl, fun z z0 z1 => hB z z0 (by omega)⟩)
    · exfalso
      omega
  | succ j ih =>
    intro i v z5 z6 h0 h1 hF e36 hN hB
    obtain ⟨g1, g2, g3, g4, g5, g6⟩ := hH
    have hfr : aFr v0 v := fun a k hk => hF a k (by omega)
    have hW := aWf_congr g1 hfr
    have h32 := g2.2.2.1
    rw [aN_c33] at h32
    have hov := yOK_itH (h := hf) g2 (i - 1).toNat
    have hyc := yItH_c (u := (aN v0 (gHd K) 17)) (h := hf) (i - 1).toNat
    have hyy : v 23 2 = v0 17 2 + (i - 1) := by
      have z := congrFun (congrFun hN 38) 31
      rw [hyc.1] at z
      have z2 : v 23 2 = v0 17 2 + ((i - 1).toNat : Int) := z
      omega
    have hy0 := g2.2.2.2.2.2.2.2.2.2
    rw [aN_c31] at hy0
    have hah : aHf v = hf := by
      unfold aHf
      rw [e36, if_pos (by omega)]
    refine Gx_iload dX0_step_52 rfl ?_
    refine Gx_iload_n (i := 2) dX0_step_54 rfl rfl ?_
    refine Gx_icmp_gt (tgt := 149) dX0_step_55 (by decide) (fun c55 => ?_) (fun c55 => ?_)
    · refine Gx_aload_n (i := 0) dX0_step_149 rfl rfl ?_
      refine Gx_bipush dX0_step_150 ⟨by decide, by decide⟩ ?_
      refine pf_X0_96_20 dX0_step_152 rfl rfl ?_
      refine Gx_iload_n (i := 3) dX0_step_155 rfl rfl ?_
      refine Gx_ireturn dX0_step_156 trivial ?_
      exfalso
      omega
    · refine Gx_iload_n (i := 3) dX0_step_58 rfl rfl ?_
      refine Gx_if_ge (tgt := 149) dX0_step_59 (by decide) (fun c59 => ?_) (fun c59 => ?_)
      · refine Gx_aload_n (i := 0) dX0_step_149 rfl rfl ?_
        refine Gx_bipush dX0_step_150 ⟨by decide, by decide⟩ ?_
        refine pf_X0_96_20 dX0_step_152 rfl rfl ?_
        refine Gx_iload_n (i := 3) dX0_step_155 rfl rfl ?_
        refine Gx_ireturn dX0_step_156 trivial ?_
        exfalso
        omega
      · refine Gx_aload_n (i := 0) dX0_step_62 rfl rfl ?_
        refine cl_X0_445 dX0_step_63 rfl rfl ⟨(Nat.le_of_ble_eq_true rfl), (Nat.le_of_ble_eq_true rfl)⟩ rfl ?_
        refine ct_X0_passTrial hW (by rw [hN]; exact hov) (by omega) (by rw [hF 0 35 (by omega)]; exact g4) (a63_f g1 hfr g5) (fun vP hps => ?_)
        have fP : ∀ a k, ¬ (aSq a k ∨ (a = 0 ∧ k = 36)) → vP a k = v0 a k := fun a k hk => by
          rw [hps.2.2.2.2.2 a k (by omega)]
          exact hF a k hk
        have p36 : vP 0 36 = hf := by rw [hps.2.2.2.2.2 0 36 (by omega)]; exact e36
        have p32 : vP 0 32 = v0 0 32 := fP 0 32 (by omega)
        have v32 : v 0 32 = v0 0 32 := hF 0 32 (by omega)
        have z33 : yItH (aN v0 (gHd K) 17) hf (i - 1).toNat 38 33 = v0 0 32 := hyc.2.1
        have nP : aN vP (gHd K) 23 = yItH (aN v0 (gHd K) 17) hf (i + 1 - 1).toNat := by
          rw [hps.1, hN, hah, show (i + 1 - 1).toNat = (i - 1).toNat + 1 by omega]
          rfl
        have r26 : ∀ q, 0 ≤ q → q < vP 0 32 → vP 26 q = if yB (yItH (aN v0 (gHd K) 17) hf (i - 1).toNat) (yMay (yItH (aN v0 (gHd K) 17) hf (i - 1).toNat)) q = true then 1 else 0 := fun q q0 q1 => by
          have := (hps.2.2.2.1 q q0 (by omega)).1
          rw [hN] at this
          exact this
        refine Gx_iconst ⟨by decide, by decide⟩ dX0_step_66 ?_
        refine Gx_istore_5 dX0_step_67 (Nat.le_of_ble_eq_true rfl) (Nat.ne_of_beq_eq_false rfl) ?_
        refine Gx_iconst ⟨by decide, by decide⟩ dX0_step_69 ?_
        refine Gx_istore_6 dX0_step_70 (Nat.le_of_ble_eq_true rfl) (Nat.ne_of_beq_eq_false rfl) ?_
        refine lp_X0_step1 (B := yB (yItH (aN v0 (gHd K) 17) hf (i - 1).toNat) (yMay (yItH (aN v0 (gHd K) 17) hf (i - 1).toNat))) (by omega) r26 ?_ (vP 0 32).toNat 0 (by omega) (by omega)
        have hcr := aHb_cr (u := yItH (aN v0 (gHd K) 17) hf (i - 1).toNat) (hf := hf)
        rw [z33, ← p32] at hcr
        refine Gx_iload dX0_step_123 rfl ?_
        refine Gx_iconst ⟨by decide, by decide⟩ dX0_step_125 ?_
        refine Gx_icmp_eq (tgt := 135) dX0_step_126 (by decide) (fun c126 => ?_) (fun c126 => ?_)
        · refine Gx_iload dX0_step_135 rfl ?_
          refine Gx_goto (tgt := 142) dX0_step_137 (by decide) ?_
          refine Gx_istore_n_3 dX0_step_142 (Nat.le_of_ble_eq_true rfl) (Nat.ne_of_beq_eq_false rfl) ?_
          refine Gx_iinc_4 dX0_step_143 (Nat.le_of_ble_eq_true rfl) (Nat.ne_of_beq_eq_false rfl) ?_
          try simp (disch := omega) only [w32_id]
          refine Gx_goto (tgt := 52) dX0_step_146 (by decide) ?_
          first
          | exact ih (i + 1) vP _ _ (by omega) (by omega) fP p36 nP (bef_c hB (fun z => absurd (hcr.mpr z) (by omega)))
          | (refine Gx_iload dX0_step_52 rfl ?_
             refine Gx_iload_n (i := 2) dX0_step_54 rfl rfl ?_
             refine Gx_icmp_gt (tgt := 149) dX0_step_55 (by decide) (fun c55 => ?_) (fun c55 => ?_)
             · refine Gx_aload_n (i := 0) dX0_step_149 rfl rfl ?_
               refine Gx_bipush dX0_step_150 ⟨by decide, by decide⟩ ?_
               refine pf_X0_96_20 dX0_step_152 rfl rfl ?_
               refine Gx_iload_n (i := 3) dX0_step_155 rfl rfl ?_
               refine Gx_ireturn dX0_step_156 trivial ?_
               refine k1 _ i (fun a k hk => by
                 by_cases g : a = 0 ∧ k = 36
                 · rw [gUp_eq2 g.1 g.2, g.1, g.2, h36]
                 · rw [gUp_ne2 g]; exact fP a k (by omega)) (Or.inr ⟨by omega, hcr.mp (by omega), hB⟩)
             · refine Gx_iload_n (i := 3) dX0_step_58 rfl rfl ?_
               refine Gx_if_ge (tgt := 149) dX0_step_59 (by decide) (fun c59 => ?_) (fun c59 => ?_)
               · refine Gx_aload_n (i := 0) dX0_step_149 rfl rfl ?_
                 refine Gx_bipush dX0_step_150 ⟨by decide, by decide⟩ ?_
                 refine pf_X0_96_20 dX0_step_152 rfl rfl ?_
                 refine Gx_iload_n (i := 3) dX0_step_155 rfl rfl ?_
                 refine Gx_ireturn dX0_step_156 trivial ?_
                 refine k1 _ i (fun a k hk => by
                   by_cases g : a = 0 ∧ k = 36
                   · rw [gUp_eq2 g.1 g.2, g.1, g.2, h36]
                   · rw [gUp_ne2 g]; exact fP a k (by omega)) (Or.inr ⟨by omega, hcr.mp (by omega), hB⟩)
               · exfalso
                 omega)
        · refine Gx_iload dX0_step_129 rfl ?_
          refine Gx_iconst ⟨by decide, by decide⟩ dX0_step_131 ?_
          refine Gx_icmp_ne (tgt := 140) dX0_step_132 (by decide) (fun c132 => ?_) (fun c132 => ?_)
          · refine Gx_bipush dX0_step_140 ⟨by decide, by decide⟩ ?_
            refine Gx_istore_n_3 dX0_step_142 (Nat.le_of_ble_eq_true rfl) (Nat.ne_of_beq_eq_false rfl) ?_
            refine Gx_iinc_4 dX0_step_143 (Nat.le_of_ble_eq_true rfl) (Nat.ne_of_beq_eq_false rfl) ?_
            try simp (disch := omega) only [w32_id]
            refine Gx_goto (tgt := 52) dX0_step_146 (by decide) ?_
            first
            | exact ih (i + 1) vP _ _ (by omega) (by omega) fP p36 nP (bef_c hB (fun z => absurd (hcr.mpr z) (by omega)))
            | (refine Gx_iload dX0_step_52 rfl ?_
               refine Gx_iload_n (i := 2) dX0_step_54 rfl rfl ?_
               refine Gx_icmp_gt (tgt := 149) dX0_step_55 (by decide) (fun c55 => ?_) (fun c55 => ?_)
               · refine Gx_aload_n (i := 0) dX0_step_149 rfl rfl ?_
                 refine Gx_bipush dX0_step_150 ⟨by decide, by decide⟩ ?_
                 refine pf_X0_96_20 dX0_step_152 rfl rfl ?_
                 refine Gx_iload_n (i := 3) dX0_step_155 rfl rfl ?_
                 refine Gx_ireturn dX0_step_156 trivial ?_
                 refine k1 _ i (fun a k hk => by
                   by_cases g : a = 0 ∧ k = 36
                   · rw [gUp_eq2 g.1 g.2, g.1, g.2, h36]
                   · rw [gUp_ne2 g]; exact fP a k (by omega)) (Or.inr ⟨by omega, hcr.mp (by omega), hB⟩)
               · refine Gx_iload_n (i := 3) dX0_step_58 rfl rfl ?_
                 refine Gx_if_ge (tgt := 149) dX0_step_59 (by decide) (fun c59 => ?_) (fun c59 => ?_)
                 · refine Gx_aload_n (i := 0) dX0_step_149 rfl rfl ?_
                   refine Gx_bipush dX0_step_150 ⟨by decide, by decide⟩ ?_
                   refine pf_X0_96_20 dX0_step_152 rfl rfl ?_
                   refine Gx_iload_n (i := 3) dX0_step_155 rfl rfl ?_
                   refine Gx_ireturn dX0_step_156 trivial ?_
                   refine k1 _ i (fun a k hk => by
                     by_cases g : a = 0 ∧ k = 36
                     · rw [gUp_eq2 g.1 g.2, g.1, g.2, h36]
                     · rw [gUp_ne2 g]; exact fP a k (by omega)) (Or.inr ⟨by omega, hcr.mp (by omega), hB⟩)
                 · exfalso
                   omega)
          · refine Gx_iload dX0_step_135 rfl ?_
            refine Gx_goto (tgt := 142) dX0_step_137 (by decide) ?_
            refine Gx_istore_n_3 dX0_step_142 (Nat.le_of_ble_eq_true rfl) (Nat.ne_of_beq_eq_false rfl) ?_
            refine Gx_iinc_4 dX0_step_143 (Nat.le_of_ble_eq_true rfl) (Nat.ne_of_beq_eq_false rfl) ?_
            try simp (disch := omega) only [w32_id]
            refine Gx_goto (tgt := 52) dX0_step_146 (by decide) ?_
            first
            | exact ih (i + 1) vP _ _ (by omega) (by omega) fP p36 nP (bef_c hB (fun z => absurd (hcr.mpr z) (by omega)))
            | (refine Gx_iload dX0_step_52 rfl ?_
               refine Gx_iload_n (i := 2) dX0_step_54 rfl rfl ?_
               refine Gx_icmp_gt (tgt := 149) dX0_step_55 (by decide) (fun c55 => ?_) (fun c55 => ?_)
               · refine Gx_aload_n (i := 0) dX0_step_149 rfl rfl ?_
                 refine Gx_bipush dX0_step_150 ⟨by decide, by decide⟩ ?_
                 refine pf_X0_96_20 dX0_step_152 rfl rfl ?_
                 refine Gx_iload_n (i := 3) dX0_step_155 rfl rfl ?_
                 refine Gx_ireturn dX0_step_156 trivial ?_
                 refine k1 _ i (fun a k hk => by
                   by_cases g : a = 0 ∧ k = 36
                   · rw [gUp_eq2 g.1 g.2, g.1, g.2, h36]
                   · rw [gUp_ne2 g]; exact fP a k (by omega)) (Or.inr ⟨by omega, hcr.mp (by omega), hB⟩)
               · refine Gx_iload_n (i := 3) dX0_step_58 rfl rfl ?_
                 refine Gx_if_ge (tgt := 149) dX0_step_59 (by decide) (fun c59 => ?_) (fun c59 => ?_)
                 · refine Gx_aload_n (i := 0) dX0_step_149 rfl rfl ?_
                   refine Gx_bipush dX0_step_150 ⟨by decide, by decide⟩ ?_
                   refine pf_X0_96_20 dX0_step_152 rfl rfl ?_
                   refine Gx_iload_n (i := 3) dX0_step_155 rfl rfl ?_
                   refine Gx_ireturn dX0_step_156 trivial ?_
                   refine k1 _ i (fun a k hk => by
                     by_cases g : a = 0 ∧ k = 36
                     · rw [gUp_eq2 g.1 g.2, g.1, g.2, h36]
                     · rw [gUp_ne2 g]; exact fP a k (by omega)) (Or.inr ⟨by omega, hcr.mp (by omega), hB⟩)
                 · exfalso
                   omega)
set_option maxHeartbeats 1000000 in
theorem ct_X0_step {hf n : Int} (hH : aHy v (gHd K)) (h36 : v 0 36 = -9) (kB : ¬ ((1 ≤ hf ∧ hf ≤ wShl 1 (v 0 32) - 2) ∧ 1 ≤ n ∧ n ≤ 200) → Q (0, -1) v (gHd K) t) (k1 : (1 ≤ hf ∧ hf ≤ wShl 1 (v 0 32) - 2) → (1 ≤ n ∧ n ≤ 200) → ∀ (v1 : gM) (r : Int), aScr v v1 → oStp (aN v (gHd K) 17) hf n r → Q (0, r) v1 (gHd K) t) : Ctr Γ mX0_step [(2, 0), (0, hf), (0, n)] v (gHd K) t Q := by
  refine Ctr.ofG (ls := [(2, 0), (0, hf), (0, n), (9, 0), (9, 0), (9, 0), (9, 0)]) rfl rfl rfl rfl rfl ?_
  have h32 := hH.2.1.2.2.1
  rw [aN_c33] at h32
  have hsl := shl_le h32.1 h32.2
  refine Gx_iload_n (i := 2) dX0_step_0 rfl rfl ?_
  refine Gx_iconst ⟨by decide, by decide⟩ dX0_step_1 ?_
  refine Gx_sipush dX0_step_2 ⟨by decide, by decide⟩ ?_
  refine cl_X0_129 dX0_step_5 rfl ⟨(Nat.le_of_ble_eq_true rfl), (Nat.le_of_ble_eq_true rfl)⟩ rfl ?_
  refine ct_X0_isIn (fun hn => ?_) (fun hn => ?_)
  · refine Gx_if_eq (tgt := 28) dX0_step_8 (by decide) (fun hz => absurd hz (by decide)) (fun _ => ?_)
    refine Gx_iload_n (i := 1) dX0_step_11 rfl rfl ?_
    refine Gx_iconst ⟨by decide, by decide⟩ dX0_step_12 ?_
    refine Gx_icmp_lt (tgt := 28) dX0_step_13 (by decide) (fun c13 => ?_) (fun c13 => ?_)
    · refine Gx_iconst ⟨by decide, by decide⟩ dX0_step_28 ?_
      refine Gx_ireturn dX0_step_29 trivial ?_
      exact kB (by omega)
    · refine Gx_iload_n (i := 1) dX0_step_16 rfl rfl ?_
      refine Gx_iconst ⟨by decide, by decide⟩ dX0_step_17 ?_
      refine Gx_aload_n (i := 0) dX0_step_18 rfl rfl ?_
      refine gf_X0_276_20 dX0_step_19 rfl rfl ?_
      refine Gx_ishl dX0_step_22 ?_
      refine Gx_iconst ⟨by decide, by decide⟩ dX0_step_23 ?_
      refine Gx_isub dX0_step_24 ?_
      try simp (disch := omega) only [w32_id]
      refine Gx_icmp_lt (tgt := 30) dX0_step_25 (by decide) (fun c25 => ?_) (fun c25 => ?_)
      · refine Gx_bipush dX0_step_30 ⟨by decide, by decide⟩ ?_
        refine Gx_istore_n_3 dX0_step_32 (Nat.le_of_ble_eq_true rfl) (Nat.ne_of_beq_eq_false rfl) ?_
        refine Gx_aload_n (i := 0) dX0_step_33 rfl rfl ?_
        refine Gx_iload_n (i := 1) dX0_step_34 rfl rfl ?_
        refine pf_X0_96_20 dX0_step_35 rfl rfl ?_
        refine Gx_aload_n (i := 0) dX0_step_38 rfl rfl ?_
        refine gf_X0_90_20 dX0_step_39 rfl rfl ?_
        refine Gx_aload_n (i := 0) dX0_step_42 rfl rfl ?_
        refine gf_X0_86_20 dX0_step_43 rfl rfl ?_
        refine cl_X0_429 dX0_step_46 rfl rfl ⟨(Nat.le_of_ble_eq_true rfl), (Nat.le_of_ble_eq_true rfl)⟩ rfl ?_
        refine Ctr_name (fun vA eA => ?_)
        have fA : ∀ a k, ¬ (a = 0 ∧ k = 36) → vA a k = v a k := fun a k hk => by rw [eA, gUp_ne2 hk]
        have hfA : aFr v vA := fun a k hk => fA a k (by omega)
        have hWA := aWf_congr hH.1 hfA
        have nA : aN vA (gHd K) 17 = (aN v (gHd K) 17) := aN_17f hH.1 hfA (fA 17 2 (by omega)) (fun k => fA 18 k (by omega)) (fun k => fA 19 k (by omega))
        refine ct_X1_comesTo (fun v2 hct => ?_)
        have n2 : aN v2 (gHd K) 23 = (aN v (gHd K) 17) := by rw [(oCt_N hWA (by rw [nA]; exact hH.2.1) hct).1, nA]
        refine Gx_iconst ⟨by decide, by decide⟩ dX0_step_49 ?_
        refine Gx_istore_4 dX0_step_50 (Nat.le_of_ble_eq_true rfl) (Nat.ne_of_beq_eq_false rfl) ?_
        exact lp_X0_step2 (v0 := v) hH h36 (by omega) hn (k1 ⟨by omega, by omega⟩ hn) n.toNat 1 v2 _ _ (by omega) (by omega) (fun a k hk => by rw [hct.1 a k (by omega)]; exact fA a k (by omega)) (by rw [hct.1 0 36 (by omega), eA, gUp_eq2 rfl rfl]) n2 (fun z z0 z1 => absurd z1 (by omega))
      · refine Gx_iconst ⟨by decide, by decide⟩ dX0_step_28 ?_
        refine Gx_ireturn dX0_step_29 trivial ?_
        exact kB (by omega)
  · refine Gx_if_eq (tgt := 28) dX0_step_8 (by decide) (fun _ => ?_) (fun hz => absurd hz (by decide))
    refine Gx_iconst ⟨by decide, by decide⟩ dX0_step_28 ?_
    refine Gx_ireturn dX0_step_29 trivial ?_
    exact kB (by omega)
end
