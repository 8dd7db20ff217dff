/-! the pure reader of items and texts; AcornYearsModel does so -/
section
variable {Γ : gC} {v : gM} {K : gH} {t : Nat} {Q : gQ}
/-- how far a reading step goes: at least e, at most k behind p -/
def Bnd {α : Type} (e p k : Int) (pos : α → Int) (x : Except Int α) : Prop := (∀ q, x = .error q → p ≤ q ∧ q ≤ p + k) ∧ ∀ a, x = .ok a → p + e ≤ pos a ∧ pos a ≤ p + k
theorem Bnd.b {α β : Type} {p k k1 k2 : Int} {pos1 : α → Int} {pos2 : β → Int} {x : Except Int α} {f : α → Except Int β} (h1 : Bnd 0 p k1 pos1 x) (h2 : ∀ a, Bnd 0 (pos1 a) k2 pos2 (f a)) (hk : k1 + k2 ≤ k) (hk2 : 0 ≤ k2) : Bnd 0 p k pos2 (x >>= f) := by
  cases x with
  | error q =>
    refine ⟨fun q' h => ?_, fun a h => by cases h⟩
    have := h1.1 q rfl
    have e : q = q' := Except.error.inj h
    omega
  | ok a =>
    have h3 := h1.2 a rfl
    have h4 := h2 a
    refine ⟨fun q' h => ?_, fun c h => ?_⟩
    · have := h4.1 q' h; omega
    · have := h4.2 c h; omega
theorem Bnd.ret {α : Type} {p k : Int} {pos : α → Int} {a : α} (h : pos a = p) (hk : 0 ≤ k) : Bnd 0 p k pos (Pure.pure a : Except Int α) := by
  refine ⟨fun q h => ?_, fun c hc => ?_⟩
  · cases h
  · cases hc; omega
theorem Bnd.ite {α : Type} {e p k : Int} {pos : α → Int} {c : Prop} [Decidable c] {x y : Except Int α} (h1 : Bnd e p k pos x) (h2 : Bnd e p k pos y) : Bnd e p k pos (if c then x else y) := by split <;> assumption
theorem Bnd.rd {b : pB} {f : Nat} {lo hi p : Int} (hf : f ≤ 2) : Bnd 0 p 2 (fun a : Int × Int => a.1) (pRd b f lo hi p) := ⟨fun q h => by have := pRd_err h; omega, fun a h => by obtain ⟨q, x⟩ := a; have := pRd_ok h; show p + 0 ≤ q ∧ q ≤ p + 2; omega⟩
theorem Bnd.sg {b : pB} {c p : Int} : Bnd 0 p 1 (fun a : Int => a) (pSg b c p) := ⟨fun q h => by have := pSg_err h; omega, fun a h => by have := pSg_ok h; show p + 0 ≤ a ∧ a ≤ p + 1; omega⟩
theorem Bnd_more {b : pB} {kd p : Int} : Bnd 0 p 10 (fun a : Int × Int × Int × Int => a.1) (pMore b kd p) := by
  unfold pMore
  refine Bnd.b (k1 := 1) (k2 := 9) Bnd.sg (fun q1 => ?_) (by omega) (by omega)
  refine Bnd.b (k1 := 2) (k2 := 7) (Bnd.rd (by split <;> omega)) (fun q2 => ?_) (by omega) (by omega)
  refine Bnd.b (k1 := 1) (k2 := 6) Bnd.sg (fun q3 => ?_) (by omega) (by omega)
  refine Bnd.b (k1 := 2) (k2 := 4) (Bnd.rd (by omega)) (fun q4 => ?_) (by omega) (by omega)
  refine Bnd.ite ?_ (Bnd.ite ?_ (Bnd.ret rfl (by omega)))
  · refine Bnd.b (k1 := 1) (k2 := 3) Bnd.sg (fun q5 => ?_) (by omega) (by omega)
    exact Bnd.b (k1 := 2) (k2 := 0) (Bnd.rd (by omega)) (fun q6 => Bnd.ret rfl (by omega)) (by omega) (by omega)
  · refine Bnd.b (k1 := 1) (k2 := 3) Bnd.sg (fun q5 => ?_) (by omega) (by omega)
    exact Bnd.b (k1 := 2) (k2 := 0) (Bnd.rd (by omega)) (fun q6 => Bnd.ret rfl (by omega)) (by omega) (by omega)
theorem Bnd_sort {b : pB} {kd p : Int} : Bnd 0 p 16 (fun a : Int × (Int → Int) => a.1) (pSort b kd p) := by
  unfold pSort
  refine Bnd.b (k1 := 2) (k2 := 14) (Bnd.rd (by omega)) (fun q1 => ?_) (by omega) (by omega)
  refine Bnd.b (k1 := 2) (k2 := 12) (Bnd.rd (by omega)) (fun q2 => ?_) (by omega) (by omega)
  refine Bnd.b (k1 := 2) (k2 := 10) (Bnd.rd (by omega)) (fun q3 => ?_) (by omega) (by omega)
  obtain ⟨p3, a2⟩ := q3
  dsimp only
  split
  · exact Bnd.ret rfl (by omega)
  · exact Bnd.b (k1 := 10) (k2 := 0) Bnd_more (fun a => Bnd.ret rfl (by omega)) (by omega) (by omega)
theorem Bnd_eater {b : pB} {p : Int} : Bnd 0 p 11 (fun a : Int × Int × Int × Int × Int => a.1) (pEater b p) := by
  unfold pEater
  refine Bnd.b (k1 := 2) (k2 := 9) (Bnd.rd (by omega)) (fun q1 => ?_) (by omega) (by omega)
  refine Bnd.b (k1 := 1) (k2 := 8) Bnd.sg (fun q2 => ?_) (by omega) (by omega)
  refine Bnd.b (k1 := 2) (k2 := 6) (Bnd.rd (by omega)) (fun q3 => ?_) (by omega) (by omega)
  refine Bnd.b (k1 := 1) (k2 := 5) Bnd.sg (fun q4 => ?_) (by omega) (by omega)
  refine Bnd.b (k1 := 2) (k2 := 3) (Bnd.rd (by omega)) (fun q5 => ?_) (by omega) (by omega)
  refine Bnd.b (k1 := 1) (k2 := 2) Bnd.sg (fun q6 => ?_) (by omega) (by omega)
  exact Bnd.b (k1 := 2) (k2 := 0) (Bnd.rd (by omega)) (fun q7 => Bnd.ret rfl (by omega)) (by omega) (by omega)
theorem Bnd_jay {b : pB} {p : Int} : Bnd 0 p 5 (fun a : Int × Int × Int => a.1) (pJay b p) := by
  unfold pJay
  refine Bnd.b (k1 := 2) (k2 := 3) (Bnd.rd (by omega)) (fun q1 => ?_) (by omega) (by omega)
  refine Bnd.b (k1 := 1) (k2 := 2) Bnd.sg (fun q2 => ?_) (by omega) (by omega)
  exact Bnd.b (k1 := 2) (k2 := 0) (Bnd.rd (by omega)) (fun q7 => Bnd.ret rfl (by omega)) (by omega) (by omega)
theorem Bnd_chan {b : pB} {p : Int} : Bnd 0 p 8 (fun a : Int × Int × Int × Int => a.1) (pChan b p) := by
  unfold pChan
  refine Bnd.b (k1 := 2) (k2 := 6) (Bnd.rd (by omega)) (fun q1 => ?_) (by omega) (by omega)
  refine Bnd.b (k1 := 1) (k2 := 5) Bnd.sg (fun q2 => ?_) (by omega) (by omega)
  refine Bnd.b (k1 := 2) (k2 := 3) (Bnd.rd (by omega)) (fun q3 => ?_) (by omega) (by omega)
  refine Bnd.b (k1 := 1) (k2 := 2) Bnd.sg (fun q4 => ?_) (by omega) (by omega)
  refine Bnd.b (k1 := 2) (k2 := 0) (Bnd.rd (by omega)) (fun q5 => ?_) (by omega) (by omega)
  exact Bnd.ite (Bnd.ret rfl (by omega)) ⟨fun q h => by have e := Except.error.inj h; omega, fun a h => by cases h⟩
/-- what is read so far: as the model lays it (38 12, 38 14, 38 17, 45..49) -/
def pKind (c : Int) : Int := if c = 84 then 1 else if c = 86 then 2 else if c = 87 then 3 else if c = 78 then 4 else if c = 79 then 5 else 0
def pPutS (s : gM) (f : Int → Int) : gM := fun a j => if a = 45 ∧ 7 * s 38 12 ≤ j ∧ j ≤ 7 * s 38 12 + 6 then f (j - 7 * s 38 12) else if a = 38 ∧ j = 12 then s 38 12 + 1 else s a j
def pPutE (s : gM) (x0 x1 x2 x3 : Int) : gM := fun a j => if a = 46 ∧ 4 * s 38 14 ≤ j ∧ j ≤ 4 * s 38 14 + 3 then (if j = 4 * s 38 14 then x0 else if j = 4 * s 38 14 + 1 then x1 else if j = 4 * s 38 14 + 2 then x2 else x3) else if a = 38 ∧ j = 14 then s 38 14 + 1 else s a j
def pPutJ (s : gM) (x0 x1 : Int) : gM := gUp (gUp s 47 0 x0) 47 1 x1
def pPutC (s : gM) (b : pB) (p m : Int) : gM := fun a j => if a = 48 ∧ 0 ≤ j ∧ j < m then b (p + j) - 48 else if a = 38 ∧ j = 17 then m else s a j
def pPutM (s : gM) (x0 x1 x2 : Int) : gM := gUp (gUp (gUp s 49 0 x0) 49 1 x1) 49 2 x2
def pItem (b : pB) (p : Int) (s : gM) : Except Int (Int × gM) :=
  if 0 < pKind (b p) then
    (if s 38 12 = 6 then .error p else do
      let (q, f) ← pSort b (pKind (b p)) (p + 1)
      return (q, pPutS s f))
  else if b p = 101 then
    (if s 38 14 = 2 then .error p else do
      let (q, x0, x1, x2, x3) ← pEater b (p + 1)
      return (q, pPutE s x0 x1 x2 x3))
  else if b p = 106 then do
    let (q, x0, x1) ← pJay b (p + 1)
    return (q, pPutJ s x0 x1)
  else if b p = 99 then
    (if 0 < pCnt b 8 (p + 1) then .ok (p + 1 + pCnt b 8 (p + 1), pPutC s b (p + 1) (pCnt b 8 (p + 1))) else .error (p + 1))
  else if b p = 109 then do
    let (q, x0, x1, x2) ← pChan b (p + 1)
    return (q, pPutM s x0 x1 x2)
  else .error p
theorem Bnd.shift {α : Type} {p k : Int} {pos : α → Int} {x : Except Int α} (h : Bnd 0 (p + 1) k pos x) : Bnd 1 p (k + 1) pos x := ⟨fun q hq => by have := h.1 q hq; omega, fun a ha => by have := h.2 a ha; omega⟩
theorem Bnd.err {α : Type} {e p k : Int} {pos : α → Int} (hk : 0 ≤ k) : Bnd e p k pos (.error p : Except Int α) := ⟨fun q h => by have e := Except.error.inj h; omega, fun a h => by cases h⟩
theorem Bnd_item {b : pB} {p : Int} {s : gM} : Bnd 1 p 17 (fun a : Int × gM => a.1) (pItem b p s) := by
  unfold pItem
  refine Bnd.ite (Bnd.ite (Bnd.err (by omega)) ?_) (Bnd.ite (Bnd.ite (Bnd.err (by omega)) ?_) (Bnd.ite ?_ (Bnd.ite (Bnd.ite ?_ ?_) (Bnd.ite ?_ (Bnd.err (by omega))))))
  · exact Bnd.shift (k := 16) (Bnd.b (k2 := 0) Bnd_sort (fun a => Bnd.ret rfl (by omega)) (by omega) (by omega))
  · exact Bnd.shift (k := 16) (Bnd.b (k2 := 0) Bnd_eater (fun a => Bnd.ret rfl (by omega)) (by omega) (by omega))
  · exact Bnd.shift (k := 16) (Bnd.b (k2 := 0) Bnd_jay (fun a => Bnd.ret rfl (by omega)) (by omega) (by omega))
  · have := pCnt_le b 8 (p + 1)
    refine ⟨fun q h => (by cases h), fun a h => ?_⟩
    cases h
    show p + 1 ≤ p + 1 + _ ∧ p + 1 + _ ≤ _
    omega
  · exact ⟨fun q h => (by have e := Except.error.inj h; omega), fun a h => (by cases h)⟩
  · exact Bnd.shift (k := 16) (Bnd.b (k2 := 0) Bnd_chan (fun a => Bnd.ret rfl (by omega)) (by omega) (by omega))

end
