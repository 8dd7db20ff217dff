/-! Exceptions that are caught, 11: the text of a failing cast; its rule -/
section XK
def xH1 : String := "module " ++ "java.base" ++ " of loader " ++ "'bootstrap'"
def xH2 : String := "unnamed module" ++ " of loader " ++ "'bootstrap'"
theorem xCls {vm : Vm} {name : String} {c : ClassId} {k : Class} (h : vm.findClass name = some c) (hk : vm.classes[c]? = some k) : k.name = name ∧ k.hidden = none ∧ k.loader = none := by
  obtain ⟨hlt, h1, -⟩ := Array.findIdx?_eq_some_iff_getElem.mp h
  have e : vm.classes[c] = k := by
    rw [Array.getElem?_eq_getElem hlt] at hk
    exact Option.some.inj hk
  rw [e] at h1
  simp only [Bool.and_eq_true, beq_iff_eq, Option.isNone_iff_eq_none] at h1
  exact ⟨h1.1.1.1, h1.1.1.2, h1.2⟩
theorem xHome {vm : Vm} {k : Class} (hm : (vm.modules.all fun m => m.loader.isSome || m.name == "java.base" || !(castPackages_1.any fun p => m.packages.contains p)) = true) (hl : k.loader = none) (hp : packageOf k.name = "") : vm.home k = xH1 ∨ vm.home k = xH2 := by
  unfold Vm.home
  rw [hl]
  cases hmo : vm.moduleOf k with
  | none => exact Or.inr rfl
  | some m =>
    refine Or.inl ?_
    have hn : m.name = "java.base" := by
      unfold Vm.moduleOf at hmo
      split at hmo
      · have := List.find?_some hmo
        exact eq_of_beq this
      · have h1 := List.find?_some hmo
        have h2 := List.all_eq_true.mp hm m (List.mem_of_find?_eq_some hmo)
        rw [hl, hp] at h1
        simp only [Bool.and_eq_true, beq_iff_eq] at h1
        simp only [h1.1, Option.isSome_none, Bool.false_or, Bool.or_eq_true, beq_iff_eq, castPackages_1, List.any_cons, h1.2, Bool.true_or, Bool.not_true, Bool.false_eq_true, or_false] at h2
        exact h2
    show "module " ++ m.name ++ " of loader " ++ "'bootstrap'" = xH1
    rw [hn]
    rfl
def xT1 (A B x : String) : String := toString "class " ++ toString A ++ toString " cannot be cast to class " ++ toString B ++ toString " (" ++ toString (toString A ++ toString " and " ++ toString B ++ toString " are in " ++ toString x) ++ toString ")"
def xT2 (A B x y : String) : String := toString "class " ++ toString A ++ toString " cannot be cast to class " ++ toString B ++ toString " (" ++ toString (toString A ++ toString " is in " ++ toString x ++ toString "; " ++ toString B ++ toString " is in " ++ toString y) ++ toString ")"
/-- a text of at most n characters of the first plane -/
def xS (n : Nat) (t : String) : Prop := t.toList.length ≤ n ∧ ∀ c ∈ t.toList, c.toNat < 65536
def xHd (t : String) : Prop := t.toList.head? = some 'c'
theorem xS_app {n m : Nat} {a b : String} (ha : xS n a) (hb : xS m b) : xS (n + m) (a ++ b) := by
  unfold xS at *
  rw [String.toList_append, List.length_append]
  exact ⟨by omega, fun c hc => (List.mem_append.mp hc).elim (ha.2 c) (hb.2 c)⟩
theorem xHd_app {a b : String} (ha : xHd a) : xHd (a ++ b) := by
  unfold xHd at *
  rw [String.toList_append, List.head?_append, ha]
  rfl
def xSb (n : Nat) (t : String) : Bool := decide (t.toList.length ≤ n) && t.toList.all (fun c => decide (c.toNat < 65536))
theorem xS_of {n : Nat} {t : String} (h : xSb n t = true) : xS n t := by
  unfold xSb at h
  simp only [Bool.and_eq_true, decide_eq_true_eq, List.all_eq_true] at h
  exact h
def xTOk (t : String) : Prop := xHd t ∧ xS 210 t
theorem xFold {f : Array UInt16 → Char → Array UInt16} : ∀ (l : List Char) (acc : Array UInt16), (∀ a, ∀ c ∈ l, (f a c).size = a.size + 1) → (l.foldl f acc).size = acc.size + l.length
  | [], acc, _ => by simp
  | c :: r, acc, hf => by
    simp only [List.foldl_cons, List.length_cons]
    rw [xFold r (f acc c) (fun a d hd => hf a d (List.mem_cons_of_mem _ hd)), hf acc c List.mem_cons_self]
    omega
theorem xTOk_by {t : String} (h : xTOk t) : (t == notModelled) = false ∧ (stringBytes (stringToUtf16 t)).size ≤ 420 := by
  obtain ⟨h1, h2, h3⟩ := h
  refine ⟨?_, ?_⟩
  · rw [beq_eq_false_iff_ne]
    intro e
    unfold xHd at h1
    rw [e] at h1
    revert h1
    decide +kernel
  · have b1 := stringBytes_size_le (stringToUtf16 t)
    have b2 : (stringToUtf16 t).size = t.toList.length := by
      unfold stringToUtf16
      rw [xFold _ _ (fun a c hc => by rw [if_pos (h3 c hc)]; simp)]
      simp
    omega
theorem xH_ok {x : String} (h : x = xH1 ∨ x = xH2) : xS 38 x := by
  rcases h with rfl | rfl <;> exact xS_of (by decide +kernel)
theorem xT1_ok {A B x : String} (ha : xS 18 A) (hb : xS 18 B) (hx : xS 38 x) : xTOk (xT1 A B x) := by
  refine ⟨xHd_app (xHd_app (xHd_app (xHd_app (xHd_app (xHd_app (show xHd "class " by unfold xHd; decide +kernel)))))), ?_⟩
  have := xS_app (xS_app (xS_app (xS_app (xS_app (xS_app (xS_of (n := 6) (t := "class ") (by decide +kernel)) ha) (xS_of (n := 25) (t := " cannot be cast to class ") (by decide +kernel))) hb) (xS_of (n := 2) (t := " (") (by decide +kernel))) (xS_app (xS_app (xS_app (xS_app ha (xS_of (n := 5) (t := " and ") (by decide +kernel))) hb) (xS_of (n := 8) (t := " are in ") (by decide +kernel))) hx)) (xS_of (n := 1) (t := ")") (by decide +kernel))
  exact ⟨Nat.le_trans this.1 (by decide), this.2⟩
theorem xT2_ok {A B x y : String} (ha : xS 18 A) (hb : xS 18 B) (hx : xS 38 x) (hy : xS 38 y) : xTOk (xT2 A B x y) := by
  refine ⟨xHd_app (xHd_app (xHd_app (xHd_app (xHd_app (xHd_app (show xHd "class " by unfold xHd; decide +kernel)))))), ?_⟩
  have := xS_app (xS_app (xS_app (xS_app (xS_app (xS_app (xS_of (n := 6) (t := "class ") (by decide +kernel)) ha) (xS_of (n := 25) (t := " cannot be cast to class ") (by decide +kernel))) hb) (xS_of (n := 2) (t := " (") (by decide +kernel))) (xS_app (xS_app (xS_app (xS_app (xS_app (xS_app ha (xS_of (n := 7) (t := " is in ") (by decide +kernel))) hx) (xS_of (n := 2) (t := "; ") (by decide +kernel))) hb) (xS_of (n := 7) (t := " is in ") (by decide +kernel))) hy)) (xS_of (n := 1) (t := ")") (by decide +kernel))
  exact ⟨Nat.le_trans this.1 (by decide), this.2⟩
def xNmOk (A : String) : Bool := (packageOf A == "") && xSb 18 (dotted A)
theorem xText {vm : Vm} {A B : String} {ks kt : Class} (hm : (vm.modules.all fun m => m.loader.isSome || m.name == "java.base" || !(castPackages_1.any fun p => m.packages.contains p)) = true) (ha : ks.name = A ∧ ks.hidden = none ∧ ks.loader = none) (hb : kt.name = B ∧ kt.hidden = none ∧ kt.loader = none) (hA : xNmOk A = true) (hB : xNmOk B = true) : xTOk (Op.checkcast.message vm ks kt) := by
  unfold xNmOk at hA hB
  simp only [Bool.and_eq_true, beq_iff_eq] at hA hB
  have hx := xH_ok (xHome hm ha.2.2 (by rw [ha.1]; exact hA.1))
  have hy := xH_ok (xHome hm hb.2.2 (by rw [hb.1]; exact hB.1))
  have sA : ks.shown = dotted A := by unfold Class.shown; rw [ha.2.1, ha.1]
  have sB : kt.shown = dotted B := by unfold Class.shown; rw [hb.2.1, hb.1]
  cases hs : vm.sameModule ks kt with
  | true =>
    have e : Op.checkcast.message vm ks kt = xT1 (dotted A) (dotted B) (vm.home ks) := by
      unfold Op.checkcast.message Vm.homes
      rw [hs, sA, sB, if_pos rfl]
      rfl
    rw [e]
    exact xT1_ok (xS_of hA.2) (xS_of hB.2) hx
  | false =>
    have e : Op.checkcast.message vm ks kt = xT2 (dotted A) (dotted B) (vm.home ks) (vm.home kt) := by
      unfold Op.checkcast.message Vm.homes
      rw [hs, sA, sB, if_neg (by decide)]
      rfl
    rw [e]
    exact xT2_ok (xS_of hA.2) (xS_of hB.2) hx hy
theorem xSorts_ok : ["AcornYears$Steady", "AcornYears$Warm", "AcornYears$Saver", "AcornYears$Needing", "AcornYears$Odd"].all xNmOk = true := by decide +kernel
end XK
