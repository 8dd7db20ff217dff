/-! THE ABSTRACT LAYER, 2: values (kind, Int): 0 an int, 1 a long, 2 a reference (-1: null, a: the a-th cell of ours), 3 the script; memory v : cell → place → Int; headers h : cell → (kind, length); t: how many cells there are -/
abbrev gV : Type := Nat × Int
abbrev gM : Type := Int → Int → Int
abbrev gH : Type := Int → Nat × Int
/-- launch, the law's start (our cells come behind its heap), classes, array classes, script (cell, length, ints) -/
abbrev gC : Type := Launch × State × va_G × (Nat → ClassId) × Nat × Nat × (Nat → Int32)
abbrev gB (Γ : gC) : Nat := Γ.2.1.heap.size
/-- a method: name, code, locals, answer, class, room -/
abbrev gI : Type := MethodName × ByteArray × Nat × Option FieldType × String × Room
abbrev gQ : Type := gV → gM → gH → Nat → Prop
def gUp (v : gM) (a j x : Int) : gM := fun b k => if b = a then (if k = j then x else v b k) else v b k
def gUpH (h : gH) (a : Int) (n : Nat × Int) : gH := fun b => if b = a then n else h b
/-- a new cell's places: all 0, or all -1 -/
def gNew (v : gM) (a x : Int) : gM := fun b k => if b = a then x else v b k
def gRv (B : Nat) (x : Int) : Value := if x < 0 then .null else .ref (B + x.toNat)
def gCt (B : Nat) (ty : FieldType) (x : Int) : Value := match ty with
  | .long => .long (Int64.ofInt x)
  | .array _ => gRv B x
  | .object _ => gRv B x
  | _ => .int (Int32.ofInt x)
def gCv (Γ : gC) (a : gV) : Value := match a.1 with
  | 0 => .int (Int32.ofInt a.2)
  | 1 => .long (Int64.ofInt a.2)
  | 2 => gRv (gB Γ) a.2
  | _ => .ref Γ.2.2.2.2.1
def gRt (t : Nat) (ty : FieldType) (x : Int) : Prop := match ty with
  | .long => r64 x
  | .array _ => -1 ≤ x ∧ x < t
  | .object _ => -1 ≤ x ∧ x < t
  | .byte => -128 ≤ x ∧ x < 128
  | .boolean => 0 ≤ x ∧ x < 2
  | .short => -32768 ≤ x ∧ x < 32768
  | _ => r32 x
def gRa (t : Nat) (a : gV) : Prop := match a.1 with
  | 0 => r32 a.2
  | 1 => r64 a.2
  | 2 => -1 ≤ a.2 ∧ a.2 < t
  | _ => True
def gRs (t : Nat) : List gV → Prop
  | [] => True
  | a :: l => gRa t a ∧ gRs t l
/-- the locals by their places; a kind above 3 says nothing -/
def gLs (Γ : gC) : Nat → List gV → List (Nat × Value)
  | _, [] => []
  | i, a :: l => if a.1 < 4 then (i, gCv Γ a) :: gLs Γ (i + 1) l else gLs Γ (i + 1) l
def gCl : List vw_C := [(RX0, TX0, 54), (RX1, TX1, 8), (RX2, TX2, 61), (RX4, TX4, 1), (RX5, TX5, 3), (RX6, TX6, 3), (RX7, TX7, 4), (RX8, TX8, 4), (RX9, TX9, 3)]
def gTy (c : Nat) : Nat → FieldType := match c with
  | 0 => tyX0
  | 1 => tyX1
  | 2 => tyX2
  | 3 => tyX4
  | 4 => tyX5
  | 5 => tyX6
  | 6 => tyX7
  | 7 => tyX8
  | _ => tyX9
/-- a cell's class by its kind: 0..8 as it is, 20, 21, 22: AcornYears, Wood, AcornYearsModel with their own arrays just behind them -/
def gCi (k : Nat) : Nat := if k < 9 then k else k - 20
def gO (k : Nat) : Bool := k < 9 || (k == 20 || (k == 21 || k == 22))
def gOff (k f : Nat) : Option Int := match k with
  | 20 => match f with
    | 1 => some 1
    | 5 => some 2
    | 6 => some 3
    | 9 => some 5
    | 13 => some 6
    | 14 => some 7
    | 15 => some 8
    | 16 => some 9
    | 20 => some 10
    | 23 => some 11
    | 27 => some 12
    | 28 => some 13
    | 29 => some 14
    | 30 => some 15
    | 31 => some 16
    | 33 => some 17
    | 34 => some 23
    | 37 => some 29
    | 38 => some 30
    | 39 => some 31
    | 40 => some 32
    | 49 => some 33
    | 50 => some 34
    | 51 => some 35
    | 52 => some 36
    | _ => none
  | 21 => match f with
    | 0 => some 1
    | 1 => some 2
    | 3 => some 3
    | 4 => some 4
    | 5 => some 5
    | _ => none
  | 22 => match f with
    | 1 => some 1
    | 5 => some 2
    | 6 => some 3
    | 7 => some 4
    | 8 => some 5
    | 9 => some 6
    | 13 => some 7
    | 15 => some 8
    | 16 => some 9
    | 18 => some 10
    | 19 => some 11
    | 21 => some 12
    | 23 => some 13
    | 24 => some 14
    | 25 => some 15
    | 29 => some 16
    | 30 => some 17
    | 32 => some 18
    | 34 => some 19
    | 35 => some 20
    | 36 => some 21
    | 37 => some 22
    | 42 => some 23
    | 43 => some 24
    | 44 => some 25
    | 45 => some 26
    | 57 => some 27
    | _ => none
  | _ => none
def gFv (k : Nat) (v : gM) (a : Int) (f : Nat) : Int := match gOff k f with
  | some d => a + d
  | none => v a f
/-- an array's component by its kind -/
def gEt (k : Nat) : FieldType := match k with
  | 10 => .int
  | 11 => .byte
  | 12 => .boolean
  | 13 => .short
  | 14 => .long
  | 15 => .array .int
  | 16 => .array .byte
  | 17 => .object "AcornYears$Sort"
  | _ => .object "AcornYears$Tree"
def gOb (Γ : gC) (v : gM) (t k : Nat) (a : Int) (H : Heap) : Prop := ∃ r : vw_C, gCl[gCi k]? = some r ∧ t_OB (gB Γ + a.toNat) (Γ.2.2.1.1 (gCi k)) r.2.2 (Γ.2.2.1.2 (gCi k)) H (fun f => gCt (gB Γ) (gTy (gCi k) f) (gFv k v a f)) ∧ ∀ f, f < r.2.2 → gRt t (gTy (gCi k) f) (gFv k v a f)
def gAr (Γ : gC) (v : gM) (t k : Nat) (n a : Int) (H : Heap) : Prop := H[gB Γ + a.toNat]? = some (arrV (Γ.2.2.2.1 k) n.toNat (fun j => gCt (gB Γ) (gEt k) (v a j))) ∧ 0 ≤ n ∧ n < 2147483648 ∧ ∀ j : Int, 0 ≤ j → j < n → gRt t (gEt k) (v a j)
def gAt (Γ : gC) (v : gM) (h : gH) (t : Nat) (a : Int) (H : Heap) : Prop := (gO (h a).1 = true → gOb Γ v t (h a).1 a H) ∧ (10 ≤ (h a).1 → (h a).1 ≤ 18 → gAr Γ v t (h a).1 (h a).2 a H)
/-- the heap holds the memory -/
def gR (Γ : gC) (v : gM) (h : gH) (t : Nat) (H : Heap) : Prop := H.size = gB Γ + t ∧ (∀ q : Nat, q < gB Γ → H[q]? = Γ.2.1.heap[q]?) ∧ (∀ a : Int, a < 0 ∨ t ≤ a → h a = (99, 0)) ∧ ∀ a : Int, 0 ≤ a → a < t → gAt Γ v h t a H
abbrev gTys (Γ : gC) : List (ClassId × FieldType) := [(Γ.2.2.2.1 10, .int), (Γ.2.2.2.1 11, .byte), (Γ.2.2.2.1 12, .boolean), (Γ.2.2.2.1 13, .short), (Γ.2.2.2.1 14, .long), (Γ.2.2.2.1 15, .array .int), (Γ.2.2.2.1 16, .array .byte), (Γ.2.2.2.1 17, .object "AcornYears$Sort"), (Γ.2.2.2.1 18, .object "AcornYears$Tree")]
/-- what is known of the tables at a state: the classes, and that they are the start's, warmed -/
def gK (Γ : gC) (s : State) : Prop := va_K Γ.2.2.1 gCl (gTys Γ) s ∧ (∀ w ∈ lw_tbl, w.before #[Value.ref Γ.2.2.2.2.1] Γ.2.1 = true) ∧ (Jvm.Cond.and given_1 narrow_1).before #[Value.ref Γ.2.2.2.2.1] Γ.2.1 = true ∧ Γ.2.1.WarmedH s.vm ∧ va_X Γ.2.2.2.2.1 Γ.2.2.2.2.2.1 Γ.2.2.2.2.2.2 Γ.2.1 Γ.2.1.heap ∧ Γ.2.2.2.2.1 < gB Γ ∧ Γ.2.2.2.2.2.1 ≤ 384
theorem gK.moved {Γ : gC} {s U : State} (h : gK Γ s) (hW : s.WarmedH U.vm) : gK Γ U := ⟨va_K.moved hW.alike h.1, h.2.1, h.2.2.1, State.WarmedH.trans h.2.2.2.1 hW, h.2.2.2.2⟩
theorem gK.hts {Γ : gC} {s : State} (h : gK Γ s) (args : Array Value) : ∀ w ∈ lw_all, w.before args s = true := fun w hw => word_at h.2.2.2.1 (good_of_word (List.mem_filter.mp hw).2) (h.2.1 w (lw_all_tbl hw))
def gFit (r : Option FieldType) (x : Int) : Prop := match r with
  | some .int => True
  | some .boolean => x = 0 ∨ x = 1
  | _ => False
/-- the ways out of a method: what holds behind them -/
def gOut (Γ : gC) (M : gI) (Q : gQ) (p : Program) (e : Env) (R : Room) (s : State) (m : MethodId) (args : Array Value) (below : List Frame) (meth : Method) (c : Code) (Z : State → Prop) : Prop :=
  ∀ (r : gV) (v : gM) (h : gH) (t pc : Nat) (lsa : Array Slot) (H : Heap) (locs : List Loc) (cells slots : Nat), Q r v h t → gRa t r → gR Γ v h t H → va_S (fun q => gB Γ ≤ q) s.heap H locs → cells ≤ R.cells → slots ≤ R.slots →
    (r.1 = 0 → gFit M.2.2.2.1 r.2 → decode M.2.1 pc = .ok (.ireturn, 1) → W p Γ.1 e R s m args below meth c H locs cells slots Z (F0 m pc lsa [gCv Γ r])) ∧
    (r.1 = 1 → M.2.2.2.1 = some .long → decode M.2.1 pc = .ok (.lreturn, 1) → W p Γ.1 e R s m args below meth c H locs cells slots Z (F0 m pc lsa [gCv Γ r])) ∧
    (r.1 = 2 → (∃ n, M.2.2.2.1 = some (.object n)) → decode M.2.1 pc = .ok (.areturn, 1) → W p Γ.1 e R s m args below meth c H locs cells slots Z (F0 m pc lsa [gCv Γ r])) ∧
    (r.1 = 9 → M.2.2.2.1 = none → decode M.2.1 pc = .ok (.return_, 1) → W p Γ.1 e R s m args below meth c H locs cells slots Z (F0 m pc lsa []))
/-- the handlers of a method, told by the slots of its room (eight methods have some) -/
def gTab (n : Nat) : List (Nat × Nat × Nat × Nat) := bif n.beq 441 then [(15, 25, 26, 137)] else bif n.beq 442 then [(9, 22, 23, 150), (9, 22, 30, 152)] else bif n.beq 443 then [(27, 48, 49, 150), (27, 48, 57, 160)] else bif n.beq 444 then [(9, 69, 70, 150), (9, 69, 77, 162)] else bif n.beq 445 then [(15, 48, 49, 137)] else bif n.beq 446 then [(9, 35, 36, 150), (9, 35, 44, 152)] else bif n.beq 447 then [(26, 63, 96, 319), (64, 71, 96, 319), (72, 79, 96, 319), (80, 87, 96, 319), (88, 95, 96, 319)] else bif n.beq 448 then [(11, 27, 28, 152)] else []
def gX (M : gI) (c : Code) : Prop := gTab M.2.2.2.2.2.slots ≠ [] → c.exceptionTable.toList.map (fun h => (h.startPc, h.endPc, h.handlerPc, h.catchType)) = gTab M.2.2.2.2.2.slots
def Cxt (Γ : gC) (M : gI) (Q : gQ) (p : Program) (e : Env) (R : Room) (s : State) (m : MethodId) (args : Array Value) (below : List Frame) (meth : Method) (c : Code) (Z : State → Prop) : Prop :=
  p.tables.exec = Jvm.exec ∧ c.code = M.2.1 ∧ c.maxLocals = M.2.2.1 ∧ s.vm.findClass M.2.2.2.2.1 = some m.cls ∧ gK Γ s ∧ gB Γ ≤ s.heap.size ∧ R = M.2.2.2.2.2 ∧ meth.name = M.1.name ∧ gX M c ∧ gOut Γ M Q p e R s m args below meth c Z
/-- THE JUDGEMENT: method M at pc with locals ls, stack st, memory v h t, bc cells and bs slots still to make, comes to an end with Q -/
def Gx (Γ : gC) (M : gI) (pc : Nat) (ls st : List gV) (v : gM) (h : gH) (t bc bs : Nat) (Q : gQ) : Prop :=
  ∀ (p : Program) (e : Env) (R : Room) (s : State) (m : MethodId) (args : Array Value) (below : List Frame) (meth : Method) (c : Code) (Z : State → Prop), Cxt Γ M Q p e R s m args below meth c Z →
    ∀ (H : Heap) (locs : List Loc) (cells slots : Nat) (lsa : Array Slot), gR Γ v h t H → va_S (fun q => gB Γ ≤ q) s.heap H locs → cells + bc ≤ R.cells → slots + bs ≤ R.slots → lv_has lsa M.2.2.1 (gLs Γ 0 ls) → gRs t ls → gRs t st →
      W p Γ.1 e R s m args below meth c H locs cells slots Z (F0 m pc lsa (st.map (gCv Γ)))
/-- a method's contract: called with args in the memory v h t, it returns with Q -/
def Ctr (Γ : gC) (M : gI) (args : List gV) (v : gM) (h : gH) (t : Nat) (Q : gQ) : Prop :=
  Met Γ.1 M.1 (ws_ M.1 M.2.1 M.2.2.1 M.2.2.2.1) M.2.2.2.2.2 (va_Pc (args.map (gCv Γ)) (fun U => gR Γ v h t U.heap ∧ gK Γ U ∧ gRs t args))
    (fun _ st oc u => (∃ (r : gV) (v' : gM) (h' : gH) (t' : Nat), oc = .returned (if r.1 = 9 then none else some (gCv Γ r)) ∧ (r.1 = 9 ↔ M.2.2.2.1 = none) ∧ Q r v' h' t' ∧ gRa t' r ∧ gR Γ v' h' t' u.heap) ∧ va_F (fun q => gB Γ ≤ q) st u) M.2.2.2.2.2.cells M.2.2.2.2.2.slots (fun q => gB Γ ≤ q)
