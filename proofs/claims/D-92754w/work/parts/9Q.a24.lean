/-! AcornYears reads a text whole -/
section
variable {Γ : gC} {v : gM} {K : gH} {t : Nat} {Q : gQ}
/-- A's memory holds what is read: s tells it in the model's places -/
def RPa (c0 : Int) (s v : gM) (h : gH) : Prop := v 0 21 = s 38 12 ∧ (∀ i, 0 ≤ i → i < s 38 12 → aSd v h (v 10 i) (fun k => s 45 (7 * i + k)) ∧ c0 ≤ v (v 10 i) 0 ∧ v (v 10 i) 0 ≠ v 0 22) ∧ v 0 26 = s 38 14 ∧ (∀ e, 0 ≤ e → e < s 38 14 → v 12 e = s 46 (4 * e) ∧ v 13 e = s 46 (4 * e + 1) ∧ v 14 e = s 46 (4 * e + 2) ∧ v 15 e = s 46 (4 * e + 3)) ∧ v 0 24 = s 47 0 ∧ v 0 25 = s 47 1 ∧ ((66 ≤ v 0 22 ∧ c0 ≤ v 0 22) ∧ h (v 0 22) = (11, s 38 17) ∧ ∀ j, 0 ≤ j → j < s 38 17 → v (v 0 22) j = s 48 j) ∧ ∀ j, 0 ≤ j → j ≤ 2 → v 11 j = s 49 j
abbrev aRq (a k : Int) : Prop := (a = 0 ∧ (k = 18 ∨ k = 19 ∨ k = 21 ∨ k = 22 ∨ k = 24 ∨ k = 25 ∨ k = 26)) ∨ (10 ≤ a ∧ a ≤ 15)
def FRa (v v1 : gM) (t : Nat) : Prop := ∀ a k, a < (t : Int) → ¬ aRq a k → v1 a k = v a k
def FHa (K K1 : gH) (t : Nat) : Prop := ∀ a, a < (t : Int) → gHd K1 a = gHd K a
theorem FRa.trans {v v1 v2 : gM} {t t1 : Nat} (h1 : FRa v v1 t) (h2 : FRa v1 v2 t1) (ht : t ≤ t1) : FRa v v2 t := fun a k ha hk => (h2 a k (by omega) hk).trans (h1 a k ha hk)
theorem FHa.trans {K K1 K2 : gH} {t t1 : Nat} (h1 : FHa K K1 t) (h2 : FHa K1 K2 t1) (ht : t ≤ t1) : FHa K K2 t := fun a ha => (h2 a (by omega)).trans (h1 a ha)
theorem FHa_up {K : gH} {t : Nat} {n : Nat × Int} : FHa K (gUpH K t n) t := fun a ha => gHd_ne (by omega)
theorem FHa_r {K : gH} {t : Nat} : FHa K K t := fun _ _ => rfl
theorem aSd_fr {v v1 : gM} {K K1 : gH} {t : Nat} {o : Int} {f g : Int → Int} (hK : gTop (gHd K) t) (h : aSd v (gHd K) o f) (h35 : v1 0 35 = v 0 35) (hF : ∀ a k, 66 ≤ a → a < (t : Int) → v1 a k = v a k) (hH : FHa K K1 t) (hfg : ∀ k, 0 ≤ k → k ≤ 6 → f k = g k) : aSd v1 (gHd K1) o g := by
  obtain ⟨h1, h2, h3, h4, h5⟩ := h
  have lo := (gHd_lt hK (a := o) (by omega)).2
  have la := (gHd_lh hK h4 (by decide)).2
  have eo := hH o lo
  have e0 := hF o 0 h1 lo
  refine ⟨h1, by rw [eo]; exact h2, by rw [e0]; exact h3, by rw [e0, hH _ la]; exact h4, fun k k0 k1 => ?_⟩
  rw [← hfg k k0 k1, ← h5 k k0 k1]
  unfold aS
  rw [eo, e0, h35, hF _ _ h3 la, hF o 1 h1 lo, hF o 2 h1 lo, hF o 3 h1 lo]
theorem RPa_mk {c0 : Int} {s s1 v v1 : gM} {K K1 : gH} {t : Nat} (hK : gTop (gHd K) t) (hc0 : c0 ≤ t) (h : RPa c0 s v (gHd K)) (h35 : v1 0 35 = v 0 35) (hF : ∀ a k, 66 ≤ a → a < (t : Int) → v1 a k = v a k) (hH : FHa K K1 t) (m : v1 0 21 = s1 38 12) (hs : ∀ i, 0 ≤ i → i < s1 38 12 → (i < s 38 12 ∧ v1 10 i = v 10 i ∧ ∀ k, 0 ≤ k → k ≤ 6 → s 45 (7 * i + k) = s1 45 (7 * i + k)) ∨ (aSd v1 (gHd K1) (v1 10 i) (fun k => s1 45 (7 * i + k)) ∧ c0 ≤ v1 (v1 10 i) 0 ∧ v1 (v1 10 i) 0 ≠ v1 0 22)) (me : v1 0 26 = s1 38 14) (he : ∀ e, 0 ≤ e → e < s1 38 14 → v1 12 e = s1 46 (4 * e) ∧ v1 13 e = s1 46 (4 * e + 1) ∧ v1 14 e = s1 46 (4 * e + 2) ∧ v1 15 e = s1 46 (4 * e + 3)) (h24 : v1 0 24 = s1 47 0) (h25 : v1 0 25 = s1 47 1) (hc : (v1 0 22 = v 0 22 ∧ s1 38 17 = s 38 17 ∧ ∀ j, s1 48 j = s 48 j) ∨ ((t : Int) ≤ v1 0 22 ∧ gHd K1 (v1 0 22) = (11, s1 38 17) ∧ ∀ j, 0 ≤ j → j < s1 38 17 → v1 (v1 0 22) j = s1 48 j)) (h49 : ∀ j, 0 ≤ j → j ≤ 2 → v1 11 j = s1 49 j) : RPa c0 s1 v1 (gHd K1) := by
  obtain ⟨r1, r2, r3, r4, r5, r6, ⟨c1, c2, c3⟩, r8⟩ := h
  have h66 := gHd_66 hK
  refine ⟨m, fun i i0 i1 => ?_, me, he, h24, h25, ?_, h49⟩
  · rcases hs i i0 i1 with ⟨z1, z2, z3⟩ | z
    · rw [z2]
      obtain ⟨w1, w2, w3⟩ := r2 i i0 z1
      have lo := (gHd_lt hK (a := v 10 i) (by have := w1.2.1; omega)).2
      have la := (gHd_lh hK w1.2.2.2.1 (by decide)).2
      have eo : v1 (v 10 i) 0 = v (v 10 i) 0 := hF _ _ w1.1 lo
      refine ⟨aSd_fr hK w1 h35 hF hH z3, by rw [eo]; exact w2, ?_⟩
      rw [eo]
      rcases hc with ⟨y1, -, -⟩ | ⟨y1, -, -⟩
      · rw [y1]; exact w3
      · omega
    · exact z
  · rcases hc with ⟨z1, z2, z3⟩ | z
    · have lc := (gHd_lh hK c2 (by decide)).2
      refine ⟨by rw [z1]; exact c1, by rw [z1, z2, hH _ lc]; exact c2, fun j j0 j1 => ?_⟩
      rw [z1, z3, hF _ _ c1.1 lc]
      exact c3 j j0 (by omega)
    · exact ⟨⟨by omega, by omega⟩, z.2⟩
theorem pItem_S {b : pB} {p q : Int} {s : gM} {f : Int → Int} (hk : 0 < pKind (b p)) (h6 : s 38 12 ≠ 6) (h : pSort b (pKind (b p)) (p + 1) = .ok (q, f)) : pItem b p s = .ok (q, pPutS s f) := by
  unfold pItem
  rw [if_pos hk, if_neg h6, h]
  rfl
theorem pItem_Se {b : pB} {p q : Int} {s : gM} (hk : 0 < pKind (b p)) (h6 : s 38 12 ≠ 6) (h : pSort b (pKind (b p)) (p + 1) = .error q) : pItem b p s = .error q := by
  unfold pItem
  rw [if_pos hk, if_neg h6, h]
  rfl
theorem pItem_E {b : pB} {p q x0 x1 x2 x3 : Int} {s : gM} (hc : b p = 101) (h6 : s 38 14 ≠ 2) (h : pEater b (p + 1) = .ok (q, x0, x1, x2, x3)) : pItem b p s = .ok (q, pPutE s x0 x1 x2 x3) := by
  unfold pItem
  rw [if_neg (by rw [hc]; decide), if_pos hc, if_neg h6, h]
  rfl
theorem pItem_Ee {b : pB} {p q : Int} {s : gM} (hc : b p = 101) (h6 : s 38 14 ≠ 2) (h : pEater b (p + 1) = .error q) : pItem b p s = .error q := by
  unfold pItem
  rw [if_neg (by rw [hc]; decide), if_pos hc, if_neg h6, h]
  rfl
theorem pItem_J {b : pB} {p q x0 x1 : Int} {s : gM} (hc : b p = 106) (h : pJay b (p + 1) = .ok (q, x0, x1)) : pItem b p s = .ok (q, pPutJ s x0 x1) := by
  unfold pItem
  rw [if_neg (by rw [hc]; decide), if_neg (by omega), if_pos hc, h]
  rfl
theorem pItem_Je {b : pB} {p q : Int} {s : gM} (hc : b p = 106) (h : pJay b (p + 1) = .error q) : pItem b p s = .error q := by
  unfold pItem
  rw [if_neg (by rw [hc]; decide), if_neg (by omega), if_pos hc, h]
  rfl
theorem pItem_C {b : pB} {p : Int} {s : gM} (hc : b p = 99) (h : 0 < pCnt b 8 (p + 1)) : pItem b p s = .ok (p + 1 + pCnt b 8 (p + 1), pPutC s b (p + 1) (pCnt b 8 (p + 1))) := by
  unfold pItem
  rw [if_neg (by rw [hc]; decide), if_neg (by omega), if_neg (by omega), if_pos hc, if_pos h]
theorem pItem_Ce {b : pB} {p : Int} {s : gM} (hc : b p = 99) (h : ¬ 0 < pCnt b 8 (p + 1)) : pItem b p s = .error (p + 1) := by
  unfold pItem
  rw [if_neg (by rw [hc]; decide), if_neg (by omega), if_neg (by omega), if_pos hc, if_neg h]
theorem pItem_M {b : pB} {p q x0 x1 x2 : Int} {s : gM} (hc : b p = 109) (h : pChan b (p + 1) = .ok (q, x0, x1, x2)) : pItem b p s = .ok (q, pPutM s x0 x1 x2) := by
  unfold pItem
  rw [if_neg (by rw [hc]; decide), if_neg (by omega), if_neg (by omega), if_neg (by omega), if_pos hc, h]
  rfl
theorem pItem_Me {b : pB} {p q : Int} {s : gM} (hc : b p = 109) (h : pChan b (p + 1) = .error q) : pItem b p s = .error q := by
  unfold pItem
  rw [if_neg (by rw [hc]; decide), if_neg (by omega), if_neg (by omega), if_neg (by omega), if_pos hc, h]
  rfl
theorem pItem_no {b : pB} {p : Int} {s : gM} (h : ¬ ((0 < pKind (b p) ∧ s 38 12 < 6) ∨ (b p = 101 ∧ s 38 14 < 2) ∨ b p = 106 ∨ b p = 99 ∨ b p = 109)) (hB : BP s) : pItem b p s = .error p := by
  obtain ⟨b1, b2, b3⟩ := hB
  unfold pItem
  by_cases h1 : 0 < pKind (b p)
  · rw [if_pos h1, if_pos (by omega)]
  · rw [if_neg h1]
    by_cases h2 : b p = 101
    · rw [if_pos h2, if_pos (by omega)]
    · rw [if_neg h2, if_neg (by omega), if_neg (by omega), if_neg (by omega)]

theorem aTx_mv {v v1 : gM} {K K1 : gH} {b : pB} {n : Int} (hK : gTop (gHd K) t) (hT : aTx v (gHd K) b n) (hF : FRa v v1 t) (hH : FHa K K1 t) : aTx v1 (gHd K1) b n := by
  obtain ⟨h1, h2, h3, h4⟩ := hT
  have lt := (gHd_lh hK h1 (by decide)).2
  have h66 := gHd_66 hK
  have e17 : v1 0 17 = v 0 17 := hF 0 17 (by omega) (by omega)
  refine ⟨by rw [e17, hH _ lt]; exact h1, by omega, h3, fun i hi => ?_⟩
  rw [e17, hF _ _ lt (by omega)]
  exact h4 i hi
theorem pPutS_at {s : gM} {f : Int → Int} {k : Int} (h0 : 0 ≤ k) (h1 : k ≤ 6) : pPutS s f 45 (7 * s 38 12 + k) = f k := by
  unfold pPutS
  rw [if_pos (by omega), show 7 * s 38 12 + k - 7 * s 38 12 = k by omega]
theorem pPutS_ne {s : gM} {f : Int → Int} {a j : Int} (h : ¬ (a = 45 ∧ 7 * s 38 12 ≤ j ∧ j ≤ 7 * s 38 12 + 6)) (h2 : ¬ (a = 38 ∧ j = 12)) : pPutS s f a j = s a j := by
  unfold pPutS
  rw [if_neg h, if_neg h2]
theorem pPutE_ne {s : gM} {x0 x1 x2 x3 a j : Int} (h : ¬ (a = 46 ∧ 4 * s 38 14 ≤ j ∧ j ≤ 4 * s 38 14 + 3)) (h2 : ¬ (a = 38 ∧ j = 14)) : pPutE s x0 x1 x2 x3 a j = s a j := by
  unfold pPutE
  rw [if_neg h, if_neg h2]
theorem pPutE_at {s : gM} {x0 x1 x2 x3 : Int} : pPutE s x0 x1 x2 x3 46 (4 * s 38 14) = x0 ∧ pPutE s x0 x1 x2 x3 46 (4 * s 38 14 + 1) = x1 ∧ pPutE s x0 x1 x2 x3 46 (4 * s 38 14 + 2) = x2 ∧ pPutE s x0 x1 x2 x3 46 (4 * s 38 14 + 3) = x3 := by
  unfold pPutE
  refine ⟨?_, ?_, ?_, ?_⟩
  · rw [if_pos (by omega), if_pos rfl]
  · rw [if_pos (by omega), if_neg (by omega), if_pos rfl]
  · rw [if_pos (by omega), if_neg (by omega), if_neg (by omega), if_pos rfl]
  · rw [if_pos (by omega), if_neg (by omega), if_neg (by omega), if_neg (by omega)]

set_option maxHeartbeats 4000000 in
theorem ct_X0_readsItem {b : pB} {n p c c0 : Int} {s : gM} (hc0 : c0 ≤ t) (hR : RPa c0 s v (gHd K)) (hB : BP s) (hc : c = b p) (hp : 0 ≤ p ∧ p ≤ 390) (hT : aTx v (gHd K) b n) (hq : v 0 18 = p + 1) (h35 : v 0 35 < 0) (hm : (0 < pKind c ∧ v 0 21 < 6) ∨ (c = 101 ∧ v 0 26 < 2) ∨ c = 106 ∨ c = 99 ∨ c = 109) (k1 : ∀ q s1 v1 K1 t1, pItem b p s = .ok (q, s1) → RPa c0 s1 v1 (gHd K1) → aTx v1 (gHd K1) b n → FRa v v1 t → FHa K K1 t → v1 0 18 = q → t ≤ t1 → t1 ≤ t + 2 → Q (0, 1) v1 (gHd K1) t1) (k0 : ∀ q v1 K1 t1, pItem b p s = .error q → FRa v v1 t → FHa K K1 t → v1 0 18 = q → t ≤ t1 → t1 ≤ t + 2 → Q (0, 0) v1 (gHd K1) t1) : Ctr Γ mX0_readsItem [(2, 0), (0, c)] v (gHd K) t Q := by
  refine Ctr.ofG (ls := [(2, 0), (0, c)]) rfl rfl rfl rfl rfl ?_
  refine Gx_top (fun hK => ?_)
  have h66 := gHd_66 hK
  have hR' := hR
  obtain ⟨r1, r2, r3, r4, r5, r6, r7, r8⟩ := hR'
  obtain ⟨b1, b2, b3⟩ := hB
  have hkc : (0 < pKind c ∧ pKind c ≤ 5 ∧ (c = 84 ∨ c = 86 ∨ c = 87 ∨ c = 78 ∨ c = 79)) ∨ (pKind c = 0 ∧ c ≠ 84 ∧ c ≠ 86 ∧ c ≠ 87 ∧ c ≠ 78 ∧ c ≠ 79) := by unfold pKind; omega
  refine Gx_iload_n (i := 1) dX0_readsItem_0 rfl rfl ?_
  -- SWITCH
  rcases (by omega : c = 99 ∨ c = 101 ∨ c = 106 ∨ c = 109 ∨ (c ≠ 99 ∧ c ≠ 101 ∧ c ≠ 106 ∧ c ≠ 109)) with w | w | w | w | w
  · rw [w]
    refine Gx_lookup (off := 53) (tgt := 54) dX0_readsItem_1 (by decide) rfl (by decide) ?_
    refine Gx_aload_n (i := 0) dX0_readsItem_54 rfl rfl ?_
    refine cl_X0_242 (bc' := 2) (bs' := 2) dX0_readsItem_55 rfl rfl ⟨(Nat.le_of_ble_eq_true rfl), (Nat.le_of_ble_eq_true rfl)⟩ rfl (by first | omega | decide) (by first | omega | decide) ?_
    refine ct_X0_readsCalendar (b := b) (n := n) (q0 := p + 1) hT hq (by omega) (fun v1 hpos hF q18 q22 y => ?_) (fun v1 hpos hF q18 => ?_)
    · refine Gx_ireturn dX0_readsItem_58 (Or.inr rfl) ?_
      have fr : FRa v v1 t := fun a k ha hk => hF a k ha (by omega)
      refine k1 _ (pPutC s b (p + 1) (pCnt b 8 (p + 1))) v1 _ (t + 1) (pItem_C (by omega) hpos) ?_ (aTx_mv hK hT fr FHa_up) fr FHa_up q18 (by omega) (by omega)
      have ne : ∀ a j, a ≠ 48 → ¬ (a = 38 ∧ j = 17) → pPutC s b (p + 1) (pCnt b 8 (p + 1)) a j = s a j := fun a j h1 h2 => by unfold pPutC; rw [if_neg (by omega), if_neg h2]
      have e17 : pPutC s b (p + 1) (pCnt b 8 (p + 1)) 38 17 = pCnt b 8 (p + 1) := by unfold pPutC; rw [if_neg (by omega), if_pos ⟨rfl, rfl⟩]
      refine RPa_mk hK hc0 hR (fr 0 35 (by omega) (by omega)) (fun a k a0 a1 => fr a k a1 (by omega)) FHa_up ?_ (fun i i0 i1 => ?_) ?_ (fun e e0 e1 => ?_) ?_ ?_ (Or.inr ⟨?_, ?_, fun j j0 j1 => ?_⟩) (fun j j0 j1 => ?_)
      · rw [ne _ _ (by omega) (by omega), hF 0 21 (by omega) (by omega)]
        exact r1
      · rw [ne _ _ (by omega) (by omega)] at i1
        exact Or.inl ⟨i1, hF 10 i (by omega) (by omega), fun k k0 k1 => (ne _ _ (by omega) (by omega)).symm⟩
      · rw [ne _ _ (by omega) (by omega), hF 0 26 (by omega) (by omega)]
        exact r3
      · rw [ne _ _ (by omega) (by omega)] at e1
        rw [ne _ _ (by omega) (by omega), ne _ _ (by omega) (by omega), ne _ _ (by omega) (by omega), ne _ _ (by omega) (by omega), hF 12 e (by omega) (by omega), hF 13 e (by omega) (by omega), hF 14 e (by omega) (by omega), hF 15 e (by omega) (by omega)]
        exact r4 e e0 e1
      · rw [ne _ _ (by omega) (by omega), hF 0 24 (by omega) (by omega)]
        exact r5
      · rw [ne _ _ (by omega) (by omega), hF 0 25 (by omega) (by omega)]
        exact r6
      · omega
      · rw [q22, e17]
        exact gHd_at (by omega)
      · rw [e17] at j1
        rw [q22, y j j0 j1]
        unfold pPutC
        rw [if_pos ⟨rfl, j0, j1⟩]
      · rw [ne _ _ (by omega) (by omega), hF 11 j (by omega) (by omega)]
        exact r8 j j0 j1
    · refine Gx_ireturn dX0_readsItem_58 (Or.inl rfl) ?_
      exact k0 _ v1 _ (t + 1) (pItem_Ce (by omega) (by omega)) (fun a k ha hk => hF a k ha (by omega)) FHa_up q18 (by omega) (by omega)
  · rw [w]
    refine Gx_lookup (off := 43) (tgt := 44) dX0_readsItem_1 (by decide) rfl (by decide) ?_
    refine Gx_aload_n (i := 0) dX0_readsItem_44 rfl rfl ?_
    refine cl_X0_235 dX0_readsItem_45 rfl rfl ⟨(Nat.le_of_ble_eq_true rfl), (Nat.le_of_ble_eq_true rfl)⟩ rfl ?_
    refine ct_X0_readsEaters (b := b) (n := n) (q0 := p + 1) (n0 := v 0 26) hT hq (by omega) rfl (by omega) (fun q x0 x1 x2 x3 v1 hS hF q18 q26 y0 y1 y2 y3 => ?_) (fun q v1 hS hF q18 q26 => ?_)
    · refine Gx_ireturn dX0_readsItem_48 (Or.inr rfl) ?_
      have fr : FRa v v1 t := fun a k ha hk => hF a k (by omega)
      refine k1 q (pPutE s x0 x1 x2 x3) v1 K t (pItem_E (by omega) (by omega) hS) ?_ (aTx_mv hK hT fr FHa_r) fr FHa_r q18 (by omega) (by omega)
      have e14 : pPutE s x0 x1 x2 x3 38 14 = s 38 14 + 1 := by unfold pPutE; rw [if_neg (by omega), if_pos ⟨rfl, rfl⟩]
      refine RPa_mk hK hc0 hR (fr 0 35 (by omega) (by omega)) (fun a k a0 a1 => fr a k a1 (by omega)) FHa_r ?_ (fun i i0 i1 => ?_) ?_ (fun e e0 e1 => ?_) ?_ ?_ (Or.inl ⟨?_, ?_, fun j => ?_⟩) (fun j j0 j1 => ?_)
      · rw [pPutE_ne (by omega) (by omega), hF 0 21 (by omega)]
        exact r1
      · rw [pPutE_ne (by omega) (by omega)] at i1
        exact Or.inl ⟨i1, hF 10 i (by omega), fun k k0 k1 => (pPutE_ne (by omega) (by omega)).symm⟩
      · omega
      · by_cases g : e < s 38 14
        · rw [pPutE_ne (by omega) (by omega), pPutE_ne (by omega) (by omega), pPutE_ne (by omega) (by omega), pPutE_ne (by omega) (by omega), hF 12 e (by omega), hF 13 e (by omega), hF 14 e (by omega), hF 15 e (by omega)]
          exact r4 e e0 g
        · have ge : e = s 38 14 := by omega
          subst ge
          obtain ⟨z0, z1, z2, z3⟩ := pPutE_at (s := s) (x0 := x0) (x1 := x1) (x2 := x2) (x3 := x3)
          rw [z0, z1, z2, z3, ← r3]
          exact ⟨y0, y1, y2, y3⟩
      · rw [pPutE_ne (by omega) (by omega), hF 0 24 (by omega)]
        exact r5
      · rw [pPutE_ne (by omega) (by omega), hF 0 25 (by omega)]
        exact r6
      · exact hF 0 22 (by omega)
      · exact pPutE_ne (by omega) (by omega)
      · exact pPutE_ne (by omega) (by omega)
      · rw [pPutE_ne (by omega) (by omega), hF 11 j (by omega)]
        exact r8 j j0 j1
    · refine Gx_ireturn dX0_readsItem_48 (Or.inl rfl) ?_
      exact k0 q v1 K t (pItem_Ee (by omega) (by omega) hS) (fun a k ha hk => hF a k (by omega)) FHa_r q18 (by omega) (by omega)
  · rw [w]
    refine Gx_lookup (off := 48) (tgt := 49) dX0_readsItem_1 (by decide) rfl (by decide) ?_
    refine Gx_aload_n (i := 0) dX0_readsItem_49 rfl rfl ?_
    refine cl_X0_239 dX0_readsItem_50 rfl rfl ⟨(Nat.le_of_ble_eq_true rfl), (Nat.le_of_ble_eq_true rfl)⟩ rfl ?_
    refine ct_X0_readsJay (b := b) (n := n) (q0 := p + 1) hT hq (by omega) (fun q x0 x1 v1 hS hF q18 y0 y1 => ?_) (fun q v1 hS hF q18 => ?_)
    · refine Gx_ireturn dX0_readsItem_53 (Or.inr rfl) ?_
      have fr : FRa v v1 t := fun a k ha hk => hF a k (by omega)
      refine k1 q (pPutJ s x0 x1) v1 K t (pItem_J (by omega) hS) ?_ (aTx_mv hK hT fr FHa_r) fr FHa_r q18 (by omega) (by omega)
      have ne : ∀ a j, a ≠ 47 → pPutJ s x0 x1 a j = s a j := fun a j ha => by unfold pPutJ; rw [gUp_ne2 (by omega), gUp_ne2 (by omega)]
      refine RPa_mk hK hc0 hR (fr 0 35 (by omega) (by omega)) (fun a k a0 a1 => fr a k a1 (by omega)) FHa_r ?_ (fun i i0 i1 => ?_) ?_ (fun e e0 e1 => ?_) ?_ ?_ (Or.inl ⟨?_, ?_, fun j => ?_⟩) (fun j j0 j1 => ?_)
      · rw [ne _ _ (by omega), hF 0 21 (by omega)]
        exact r1
      · rw [ne _ _ (by omega)] at i1
        exact Or.inl ⟨i1, hF 10 i (by omega), fun k k0 k1 => (ne _ _ (by omega)).symm⟩
      · rw [ne _ _ (by omega), hF 0 26 (by omega)]
        exact r3
      · rw [ne _ _ (by omega)] at e1
        rw [ne _ _ (by omega), ne _ _ (by omega), ne _ _ (by omega), ne _ _ (by omega), hF 12 e (by omega), hF 13 e (by omega), hF 14 e (by omega), hF 15 e (by omega)]
        exact r4 e e0 e1
      · rw [y0]; rfl
      · rw [y1]; rfl
      · exact hF 0 22 (by omega)
      · exact ne _ _ (by omega)
      · exact ne _ _ (by omega)
      · rw [ne _ _ (by omega), hF 11 j (by omega)]
        exact r8 j j0 j1
    · refine Gx_ireturn dX0_readsItem_53 (Or.inl rfl) ?_
      exact k0 q v1 K t (pItem_Je (by omega) hS) (fun a k ha hk => hF a k (by omega)) FHa_r q18 (by omega) (by omega)
  · rw [w]
    refine Gx_lookup (off := 58) (tgt := 59) dX0_readsItem_1 (by decide) rfl (by decide) ?_
    refine Gx_aload_n (i := 0) dX0_readsItem_59 rfl rfl ?_
    refine cl_X0_245 dX0_readsItem_60 rfl rfl ⟨(Nat.le_of_ble_eq_true rfl), (Nat.le_of_ble_eq_true rfl)⟩ rfl ?_
    refine ct_X0_readsChances (b := b) (n := n) (q0 := p + 1) hT hq (by omega) (fun q x0 x1 x2 v1 hS hF q18 y0 y1 y2 => ?_) (fun q v1 hS hF q18 => ?_)
    · refine Gx_ireturn dX0_readsItem_63 (Or.inr rfl) ?_
      have fr : FRa v v1 t := fun a k ha hk => hF a k (by omega)
      refine k1 q (pPutM s x0 x1 x2) v1 K t (pItem_M (by omega) hS) ?_ (aTx_mv hK hT fr FHa_r) fr FHa_r q18 (by omega) (by omega)
      have ne : ∀ a j, a ≠ 49 → pPutM s x0 x1 x2 a j = s a j := fun a j ha => by unfold pPutM; rw [gUp_ne2 (by omega), gUp_ne2 (by omega), gUp_ne2 (by omega)]
      refine RPa_mk hK hc0 hR (fr 0 35 (by omega) (by omega)) (fun a k a0 a1 => fr a k a1 (by omega)) FHa_r ?_ (fun i i0 i1 => ?_) ?_ (fun e e0 e1 => ?_) ?_ ?_ (Or.inl ⟨?_, ?_, fun j => ?_⟩) (fun j j0 j1 => ?_)
      · rw [ne _ _ (by omega), hF 0 21 (by omega)]
        exact r1
      · rw [ne _ _ (by omega)] at i1
        exact Or.inl ⟨i1, hF 10 i (by omega), fun k k0 k1 => (ne _ _ (by omega)).symm⟩
      · rw [ne _ _ (by omega), hF 0 26 (by omega)]
        exact r3
      · rw [ne _ _ (by omega)] at e1
        rw [ne _ _ (by omega), ne _ _ (by omega), ne _ _ (by omega), ne _ _ (by omega), hF 12 e (by omega), hF 13 e (by omega), hF 14 e (by omega), hF 15 e (by omega)]
        exact r4 e e0 e1
      · rw [ne _ _ (by omega), hF 0 24 (by omega)]
        exact r5
      · rw [ne _ _ (by omega), hF 0 25 (by omega)]
        exact r6
      · exact hF 0 22 (by omega)
      · exact ne _ _ (by omega)
      · exact ne _ _ (by omega)
      · rcases (by omega : j = 0 ∨ j = 1 ∨ j = 2) with z | z | z <;> subst z
        · rw [y0]; rfl
        · rw [y1]; rfl
        · rw [y2]; rfl
    · refine Gx_ireturn dX0_readsItem_63 (Or.inl rfl) ?_
      exact k0 q v1 K t (pItem_Me (by omega) hS) (fun a k ha hk => hF a k (by omega)) FHa_r q18 (by omega) (by omega)
  · refine Gx_lookup (off := 63) (tgt := 64) dX0_readsItem_1 (by decide) ?_ (by decide) ?_
    · show (if (99 : Int) = c then (53 : Int) else if (101 : Int) = c then 43 else if (106 : Int) = c then 48 else if (109 : Int) = c then 58 else 63) = 63
      rw [if_neg (by omega), if_neg (by omega), if_neg (by omega), if_neg (by omega)]
    refine Gx_aload_n (i := 0) dX0_readsItem_64 rfl rfl ?_
    refine Gx_iload_n (i := 1) dX0_readsItem_65 rfl rfl ?_
    refine cl_X0_248 (bc' := 0) (bs' := 0) dX0_readsItem_66 rfl rfl ⟨(Nat.le_of_ble_eq_true rfl), (Nat.le_of_ble_eq_true rfl)⟩ rfl (by first | omega | decide) (by first | omega | decide) ?_
    refine ct_X0_readsSort (b := b) (n := n) (q0 := p + 1) (n0 := v 0 21) (kd := pKind c) rfl hT hq (by omega) h35 (by omega) rfl (by omega) (fun q f v1 hS hF q18 q21 q10 qad qsd => ?_) (fun q v1 hS hF q18 => ?_)
    · refine Gx_ireturn dX0_readsItem_69 (Or.inr rfl) ?_
      have fr : FRa v v1 t := fun a k ha hk => hF a k ha (by omega)
      have fh : FHa K (gUpH (gUpH K t (11, 3)) ((t + 1 : Nat) : Int) (aCk (pKind c), 0)) t := fun a ha => by rw [gHd_ne (by omega), gHd_ne (by omega)]
      refine k1 q (pPutS s f) v1 _ (t + 2) (pItem_S (by rw [← hc]; omega) (by omega) (by rw [← hc]; exact hS)) ?_ (aTx_mv hK hT fr fh) fr fh q18 (by omega) (by omega)
      refine RPa_mk hK hc0 hR (fr 0 35 (by omega) (by omega)) (fun a k a0 a1 => fr a k a1 (by omega)) fh ?_ (fun i i0 i1 => ?_) ?_ (fun e e0 e1 => ?_) ?_ ?_ (Or.inl ⟨?_, ?_, fun j => ?_⟩) (fun j j0 j1 => ?_)
      · rw [q21, r1]
        show _ = pPutS s f 38 12
        unfold pPutS
        rw [if_neg (by omega), if_pos ⟨rfl, rfl⟩]
      · have e12 : pPutS s f 38 12 = s 38 12 + 1 := by unfold pPutS; rw [if_neg (by omega), if_pos ⟨rfl, rfl⟩]
        by_cases g : i < s 38 12
        · exact Or.inl ⟨g, hF 10 i (by omega) (by omega), fun k k0 k1 => (pPutS_ne (by omega) (by omega)).symm⟩
        · have gi : i = s 38 12 := by omega
          subst gi
          refine Or.inr ?_
          rw [← r1, q10]
          obtain ⟨d1, d2, d3, d4, d5⟩ := qsd
          refine ⟨⟨d1, d2, d3, d4, fun k k0 k1 => ?_⟩, by rw [qad]; exact hc0, by
            rw [qad, hF 0 22 (by omega) (by omega)]
            have := (gHd_lh hK r7.2.1 (by decide)).2
            omega⟩
          rw [r1, d5 k k0 k1]
          exact (pPutS_at k0 k1).symm
      · rw [pPutS_ne (by omega) (by omega), hF 0 26 (by omega) (by omega)]
        exact r3
      · rw [pPutS_ne (by omega) (by omega)] at e1
        rw [pPutS_ne (by omega) (by omega), pPutS_ne (by omega) (by omega), pPutS_ne (by omega) (by omega), pPutS_ne (by omega) (by omega), hF 12 e (by omega) (by omega), hF 13 e (by omega) (by omega), hF 14 e (by omega) (by omega), hF 15 e (by omega) (by omega)]
        exact r4 e e0 e1
      · rw [pPutS_ne (by omega) (by omega), hF 0 24 (by omega) (by omega)]
        exact r5
      · rw [pPutS_ne (by omega) (by omega), hF 0 25 (by omega) (by omega)]
        exact r6
      · exact hF 0 22 (by omega) (by omega)
      · exact pPutS_ne (by omega) (by omega)
      · exact pPutS_ne (by omega) (by omega)
      · rw [pPutS_ne (by omega) (by omega), hF 11 j (by omega) (by omega)]
        exact r8 j j0 j1
    · refine Gx_ireturn dX0_readsItem_69 (Or.inl rfl) ?_
      exact k0 q v1 _ (t + 1) (pItem_Se (by rw [← hc]; omega) (by omega) (by rw [← hc]; exact hS)) (fun a k ha hk => hF a k ha (by omega)) FHa_up q18 (by omega) (by omega)
end
