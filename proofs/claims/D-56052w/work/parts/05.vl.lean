/-! ===== the walker's own frame: the heap as a function (AHT), the method's state as one tuple (MC), the judgement V over both ===== -/
abbrev AHT : Type := Nat → Option va_E
/-- the world's constants: classes and slots; array classes by their places in arrTys; the start's objects; the start's arrays; named addresses -/
abbrev GE : Type := va_G × (Nat → ClassId) × (Nat → Option (String × List (String × String × String × Value))) × (Nat → Option (FieldType × Nat × (Nat → Value))) × (Nat → Nat → Nat)
abbrev GE.ac (g : GE) : Nat → ClassId := g.2.1
abbrev GE.ro (g : GE) : Nat → Option (String × List (String × String × String × Value)) := g.2.2.1
abbrev GE.roT (g : GE) : Nat → Option (FieldType × Nat × (Nat → Value)) := g.2.2.2.1
abbrev GE.ad (g : GE) : Nat → Nat → Nat := g.2.2.2.2
def up (h : AHT) (a : Nat) (c : va_E) : AHT := fun x => if x = a then some c else h x
theorem up_s {h : AHT} {a : Nat} {c : va_E} : up h a c a = some c := by simp [up]
theorem up_n {h : AHT} {a x : Nat} {c : va_E} (hx : x ≠ a) : up h a c x = h x := by simp [up, hx]
theorem up_o {h : AHT} {a x : Nat} {c c' : va_E} (hx : h x = some c') (hn : h a = none) : up h a c x = some c' := by
  rw [up_n (fun e => by rw [e, hn] at hx; cases hx)]; exact hx
theorem up_d {h : AHT} {a x : Nat} {c c' c0 : va_E} (hx : h x = some c') (ha : h a = some c0) (hd : c' ≠ c0) : up h a c x = some c' := by
  rw [up_n (fun e => by rw [e, ha] at hx; exact hd (Option.some.inj hx).symm)]; exact hx
abbrev ob (k : Nat) (fs : List Value) : va_E := .inr (k, fs)
/-- an array of ints (chars, bytes), of longs, of references -/
abbrev aI (g : GE) (k n : Nat) (f : Nat → Int32) : va_E := .inl (g.2.1 k, n, .inl f)
abbrev aL (g : GE) (k n : Nat) (f : Nat → Int64) : va_E := .inl (g.2.1 k, n, .inr (.inl f))
abbrev aQ (g : GE) (k n : Nat) (f : Nat → Option Nat) : va_E := .inl (g.2.1 k, n, .inr (.inr (.inr (.inr f))))
abbrev arrTys : List FieldType := [.int, .char, .byte, .long, .double, .object "java/lang/Object", .object "MosaicCatalogue$Fragment", .object "java/lang/String"]
abbrev tysG (g : GE) : List (ClassId × FieldType) := [(g.2.1 0, .int), (g.2.1 1, .char), (g.2.1 2, .byte), (g.2.1 3, .long), (g.2.1 4, .double), (g.2.1 5, .object "java/lang/Object"), (g.2.1 6, .object "MosaicCatalogue$Fragment"), (g.2.1 7, .object "java/lang/String")]
def R_ (g : GE) (A : Nat → Prop) (h : AHT) (H : Heap) : Prop := ∃ ws : va_W, va_P g.1 vwCl ws H ∧ va_D A ws ∧ ∀ (a : Nat) (c : va_E), h a = some c → (a, c) ∈ ws
theorem R_.mem {g : GE} {A : Nat → Prop} {h : AHT} {H : Heap} {a : Nat} {c : va_E} (hR : R_ g A h H) (hc : h a = some c) : ∃ (ws : va_W) (q0 : Nat), va_P g.1 vwCl ws H ∧ va_D A ws ∧ ws[q0]? = some (a, c) ∧ ∀ (x : Nat) (c' : va_E), h x = some c' → (x, c') ∈ ws := by
  obtain ⟨ws, h1, h2, h3⟩ := hR
  obtain ⟨q0, hq⟩ := List.getElem?_of_mem (h3 a c hc)
  exact ⟨ws, q0, h1, h2, hq, h3⟩
theorem R_.set {g : GE} {A : Nat → Prop} {h : AHT} {H1 : Heap} {ws : va_W} {q0 a : Nat} {c0 c' : va_E} (hq : ws[q0]? = some (a, c0)) (h3 : ∀ (x : Nat) (c : va_E), h x = some c → (x, c) ∈ ws) (hP : va_P g.1 vwCl (ws.set q0 (a, c')) H1) (hD : va_D A (ws.set q0 (a, c'))) : R_ g A (up h a c') H1 := by
  have hl := (List.getElem?_eq_some_iff.mp hq).1
  refine ⟨_, hP, hD, fun x c hx => ?_⟩
  by_cases hxa : x = a
  · subst hxa
    rw [up_s] at hx
    cases hx
    exact List.mem_of_getElem? (i := q0) (List.getElem?_set_self hl)
  · rw [up_n hxa] at hx
    obtain ⟨k, hk⟩ := List.getElem?_of_mem (h3 x c hx)
    have hkq : q0 ≠ k := fun e => by subst e; rw [hq] at hk; cases hk; exact hxa rfl
    exact List.mem_of_getElem? (i := k) (by rw [List.getElem?_set_ne hkq]; exact hk)
theorem R_.push {g : GE} {A : Nat → Prop} {h : AHT} {H1 : Heap} {ws : va_W} {q : Nat} {c : va_E} (h3 : ∀ (x : Nat) (c : va_E), h x = some c → (x, c) ∈ ws) (hP : va_P g.1 vwCl (ws ++ [(q, c)]) H1) (hD : va_D A (ws ++ [(q, c)])) : R_ g A (up h q c) H1 ∧ h q = none := by
  have hno : h q = none := by
    cases e : h q with
    | none => rfl
    | some c1 =>
      obtain ⟨k, hk⟩ := List.getElem?_of_mem (h3 q c1 e)
      have hkl := (List.getElem?_eq_some_iff.mp hk).1
      have := hD.1 k ws.length (q, c1) (q, c) (by rw [List.getElem?_append_left hkl]; exact hk) (by simp) rfl
      omega
  refine ⟨⟨_, hP, hD, fun x c1 hx => ?_⟩, hno⟩
  by_cases hxa : x = q
  · subst hxa
    rw [up_s] at hx
    cases hx
    exact List.mem_append_right _ List.mem_cons_self
  · rw [up_n hxa] at hx
    exact List.mem_append_left _ (h3 x c1 hx)
theorem R_.sub {g : GE} {A : Nat → Prop} {h h' : AHT} {H : Heap} (hR : R_ g A h H) (hs : ∀ a c, h' a = some c → h a = some c) : R_ g A h' H := by
  obtain ⟨ws, h1, h2, h3⟩ := hR
  exact ⟨ws, h1, h2, fun a c hc => h3 a c (hs a c hc)⟩
/-- words of the tables that don't ride in the lists, and are kept by warming -/
def wst : Cond → Bool
  | .fieldLinkNest _ _ _ _ _ _ => true
  | .methodLinkNest _ _ _ _ => true
  | .castable _ _ => true
  | _ => false
theorem wst_warm {w : Cond} (hw : wst w = true) {s U : State} (hW : s.WarmedH U.vm) (hZ : va_Nw w s) : va_Nw w U := by
  cases w <;> first | exact va_Nw.warmF hW hZ | exact va_Nw.warmM hW hZ | exact va_Nw.warmC hW hZ | exact absurd hw (by simp [wst])
/-- interface words that the proof uses: receiver's class, the interface's method, the method that is chosen -/
def fws : List (String × MethodName × MethodName) := [
  ("java/util/ArrayList$Itr", ⟨"java/util/Iterator", "hasNext", "()Z"⟩, ⟨"java/util/ArrayList$Itr", "hasNext", "()Z"⟩),
  ("java/util/ArrayList$Itr", ⟨"java/util/Iterator", "next", "()Ljava/lang/Object;"⟩, ⟨"java/util/ArrayList$Itr", "next", "()Ljava/lang/Object;"⟩),
  ("java/util/TreeMap$ValueIterator", ⟨"java/util/Iterator", "hasNext", "()Z"⟩, ⟨"java/util/TreeMap$PrivateEntryIterator", "hasNext", "()Z"⟩),
  ("java/util/TreeMap$ValueIterator", ⟨"java/util/Iterator", "next", "()Ljava/lang/Object;"⟩, ⟨"java/util/TreeMap$ValueIterator", "next", "()Ljava/lang/Object;"⟩),
  ("java/lang/Integer", ⟨"java/lang/Comparable", "compareTo", "(Ljava/lang/Object;)I"⟩, ⟨"java/lang/Integer", "compareTo", "(Ljava/lang/Object;)I"⟩),
  ("java/lang/StringBuilder", ⟨"java/lang/CharSequence", "length", "()I"⟩, ⟨"java/lang/StringBuilder", "length", "()I"⟩),
  ("java/lang/StringBuilder", ⟨"java/lang/CharSequence", "charAt", "(I)C"⟩, ⟨"java/lang/StringBuilder", "charAt", "(I)C"⟩),
  ("java/util/TreeMap$Values", ⟨"java/util/Collection", "iterator", "()Ljava/util/Iterator;"⟩, ⟨"java/util/TreeMap$Values", "iterator", "()Ljava/util/Iterator;"⟩)]
def aos : List String := ["java/lang/Object", "MosaicCatalogue$Fragment", "java/lang/String"]
def exs : List String := ["java/util/NoSuchElementException", "java/lang/IndexOutOfBoundsException", "java/lang/IllegalArgumentException", "java/lang/IllegalStateException", "java/lang/UnsupportedOperationException", "java/lang/ArithmeticException"]
/-- pairs of classes that don't go into one another -/
def ncs : List (String × String) := ("MosaicCatalogue$Tray", "MosaicCatalogue$Place") :: exs.flatMap (fun a => ("MosaicCatalogue$SyntaxException", a) :: (a, "MosaicCatalogue$SyntaxException") :: (exs.filter (fun b => a != b)).map (fun b => (a, b)))
/-- String constants: class, entry, text, number -/
def strs : List (String × Nat × String × Nat) := [("MosaicCatalogue", 56, "", 0), ("MosaicCatalogue", 197, "fill", 6), ("MosaicCatalogue$Command", 23, "new ", 1), ("MosaicCatalogue$Command", 29, "put ", 2), ("MosaicCatalogue$Command", 31, "take ", 3), ("MosaicCatalogue$Command", 33, "turn ", 4), ("MosaicCatalogue$Command", 35, "swap ", 5), ("MosaicCatalogue$Command", 37, "fill", 6), ("MosaicCatalogue$Command", 39, "drop ", 7), ("MosaicCatalogue", 102, "new ", 1), ("MosaicCatalogue", 108, "drop ", 7), ("MosaicCatalogue", 187, "put ", 2), ("MosaicCatalogue", 189, "take ", 3), ("MosaicCatalogue", 191, "turn ", 4), ("MosaicCatalogue", 193, "swap ", 5), ("MosaicCatalogue", 195, "guess", 8), ("MosaicCatalogue$Parser", 66, "new ", 1), ("MosaicCatalogue$Parser", 68, "put ", 2), ("MosaicCatalogue$Parser", 70, "take ", 3), ("MosaicCatalogue$Parser", 72, "turn ", 4), ("MosaicCatalogue$Parser", 74, "swap ", 5), ("MosaicCatalogue$Parser", 76, "fill", 6), ("MosaicCatalogue$Parser", 78, "drop ", 7), ("MosaicCatalogueModel", 256, "new ", 1), ("MosaicCatalogueModel", 262, "put ", 2), ("MosaicCatalogueModel", 267, "@", 9), ("MosaicCatalogueModel", 269, "turn ", 4), ("MosaicCatalogueModel", 271, "fill", 6), ("MosaicCatalogueModel", 273, "*", 10), ("MosaicCatalogueModel", 275, "swap ", 5), ("MosaicCatalogueModel", 277, "&", 11), ("MosaicCatalogueModel", 279, "take ", 3), ("MosaicCatalogueModel", 281, "drop ", 7)]
def lits : List (List Nat) := [[], [110, 101, 119, 32], [112, 117, 116, 32], [116, 97, 107, 101, 32], [116, 117, 114, 110, 32], [115, 119, 97, 112, 32], [102, 105, 108, 108], [100, 114, 111, 112, 32], [103, 117, 101, 115, 115], [64], [42], [38]]
def litH : List Int32 := [0, 3377792, 3452657, 110124153, 110726979, 109846765, 3143043, 95858449, 98708951, 64, 42, 38]
abbrev lit (e : Nat) : List Nat := lits.getD e []
/-- the value of Preconditions.SIOOBE_FORMATTER: null or a place -/
def sioo (g : GE) : Option Nat := if g.ad 4 5 = 0 then none else some (g.ad 4 6)
/-- statics with their values -/
def zs (g : GE) : List (String × String × String × Value) := [
  ("java/lang/String", "COMPACT_STRINGS", "Z", .int 1), ("java/lang/Integer$IntegerCache", "high", "I", .int 127), ("java/lang/Integer$IntegerCache", "cache", "[Ljava/lang/Integer;", .ref (g.ad 4 0)),
  ("java/lang/Integer", "DigitTens", "[B", .ref (g.ad 4 1)), ("java/lang/Integer", "DigitOnes", "[B", .ref (g.ad 4 2)), ("java/util/ArrayList", "DEFAULTCAPACITY_EMPTY_ELEMENTDATA", "[Ljava/lang/Object;", .ref (g.ad 4 3)),
  ("MosaicCatalogue$Side", "NORTH", "LMosaicCatalogue$Side;", .ref (g.ad 0 0)), ("MosaicCatalogue$Side", "EAST", "LMosaicCatalogue$Side;", .ref (g.ad 0 1)), ("MosaicCatalogue$Side", "SOUTH", "LMosaicCatalogue$Side;", .ref (g.ad 0 2)), ("MosaicCatalogue$Side", "WEST", "LMosaicCatalogue$Side;", .ref (g.ad 0 3)),
  ("java/lang/StringUTF16", "$assertionsDisabled", "Z", .int 1), ("java/lang/StringUTF16", "HI_BYTE_SHIFT", "I", .int 0), ("java/lang/StringUTF16", "LO_BYTE_SHIFT", "I", .int 8),
  ("jdk/internal/misc/Unsafe", "ARRAY_BYTE_BASE_OFFSET", "I", .int 16), ("jdk/internal/util/ArraysSupport", "LOG2_ARRAY_BYTE_INDEX_SCALE", "I", .int 0), ("jdk/internal/util/ArraysSupport", "LOG2_ARRAY_LONG_INDEX_SCALE", "I", .int 3), ("jdk/internal/util/ArraysSupport", "LOG2_ARRAY_INT_INDEX_SCALE", "I", .int 2), ("jdk/internal/util/ArraysSupport", "LOG2_BYTE_BIT_SIZE", "I", .int 3), ("jdk/internal/util/ArraysSupport", "BIG_ENDIAN", "Z", .int 0), ("jdk/internal/misc/UnsafeConstants", "BIG_ENDIAN", "Z", .int 0),
  ("jdk/internal/util/Preconditions", "SIOOBE_FORMATTER", "Ljava/util/function/BiFunction;", va_rf (sioo g))]
def sideR : List Int32 := [-1, 0, 1, 0]
def sideC : List Int32 := [0, 1, 0, -1]
/-- what the constants' places hold -/
def Gok (g : GE) : Prop :=
  (∀ e : Nat, e < 12 → g.ro (g.ad 2 e) = some ("java/lang/String", [("java/lang/String", "value", "[B", .ref (g.ad 3 e)), ("java/lang/String", "coder", "B", .int 0), ("java/lang/String", "hash", "I", .int (litH.getD e 0)), ("java/lang/String", "hashIsZero", "Z", .int (if e = 0 then 1 else 0))]) ∧ g.roT (g.ad 3 e) = some (.byte, (lit e).length, fun j => .int (nI ((lit e).getD j 0)))) ∧
  (∀ k : Nat, k < 256 → g.ro (g.ad 1 k) = some ("java/lang/Integer", [("java/lang/Integer", "value", "I", .int (vb_c k))])) ∧ g.roT (g.ad 4 0) = some (.object "java/lang/Integer", 256, fun j => .ref (g.ad 1 j)) ∧
  g.roT (g.ad 4 1) = some (.byte, 100, fun j => .int (nI (48 + j / 10))) ∧ g.roT (g.ad 4 2) = some (.byte, 100, fun j => .int (nI (48 + j % 10))) ∧ g.roT (g.ad 4 3) = some (.object "java/lang/Object", 0, fun _ => .null) ∧
  (∀ i : Nat, i < 4 → g.ro (g.ad 0 i) = some ("MosaicCatalogue$Side", [("MosaicCatalogue$Side", "number", "I", .int (nI i)), ("MosaicCatalogue$Side", "rows", "I", .int (sideR.getD i 0)), ("MosaicCatalogue$Side", "columns", "I", .int (sideC.getD i 0))])) ∧
  (∀ i j : Nat, i < 4 → j < 4 → g.ad 0 i = g.ad 0 j → i = j)
def Wh (g : GE) (A : Nat → Prop) (s : State) (H : Heap) : Prop :=
  (∀ q : Nat, H.size ≤ q → A q) ∧ (∀ (a : Nat) (C : String) (F : List (String × String × String × Value)), g.ro a = some (C, F) → va_O C a A s H ∧ ∀ q ∈ F, va_OF q.1 q.2.1 q.2.2.1 q.2.2.2 a A s H) ∧
  (∀ (a N : Nat) (t : FieldType) (f : Nat → Value), g.roT a = some (t, N, f) → va_T t a N f A s H) ∧ (∀ z ∈ zs g, va_Z z.1 z.2.1 z.2.2.1 z.2.2.2 A s H) ∧
  vx_Zq Bundle.tN "UNASSIGNED_STACK" Bundle.steD A s H ∧ vx_Zq Bundle.tN "SUPPRESSED_SENTINEL" Bundle.listD A s H
def World (g : GE) (A : Nat → Prop) (s : State) (H : Heap) : Prop :=
  va_K g.1 vwCl (tysG g) s ∧ (∀ w ∈ lw_tbl, wst w = true → va_Nw w s) ∧ (∀ q ∈ fws, va_Fw q.1 q.2.1 q.2.2 s ∧ (q.2.1.cls ≠ "java/lang/invoke/MethodHandle" ∧ q.2.1.cls ≠ "java/lang/invoke/VarHandle")) ∧ (∀ C ∈ aos, va_AO C s) ∧ (∀ q ∈ ncs, va_Nc q.1 q.2 s) ∧
  (∀ q ∈ strs, vk_R q.1 q.2.1 q.2.2.1 (g.ad 2 q.2.2.2) s) ∧ Wh g A s H ∧ Gok g ∧ va_Mi "[Ljava/lang/Object;" (g.ad 4 4) s ∧ va_Dc s
theorem Wh.to {g : GE} {A : Nat → Prop} {s U : State} {H H1 : Heap} (h : Wh g A s H) (hw : s.vm.Alike U.vm) (hz : H.size ≤ H1.size) (hk : ∀ q : Nat, q < H.size → ¬ A q → H1[q]? = H[q]?) : Wh g A U H1 := by
  obtain ⟨h1, h2, h3, h4, h5, h6⟩ := h
  refine ⟨fun q hq => h1 q (Nat.le_trans hz hq), fun a C F e => ?_, fun a N t f e => ((h3 a N t f e).moved hw).kept hk, fun z hz' => ((h4 z hz').moved hw).kept hk, (vx_Zq.moved hw h5).kept hk, (vx_Zq.moved hw h6).kept hk⟩
  obtain ⟨r1, r2⟩ := h2 a C F e
  exact ⟨(r1.moved hw).kept hk, fun q hq => ((r2 q hq).moved hw).kept hk⟩
theorem World.to {g : GE} {A : Nat → Prop} {s U : State} {H H1 : Heap} (h : World g A s H) (hW : s.WarmedH U.vm) (hz : H.size ≤ H1.size) (hk : ∀ q : Nat, q < H.size → ¬ A q → H1[q]? = H[q]?) : World g A U H1 := by
  obtain ⟨h1, h2, h3, h4, h5, h6, h7, h8, h9, h10⟩ := h
  exact ⟨va_K.moved hW.alike h1, fun w hw hs => wst_warm hs hW (h2 w hw hs), fun q hq => ⟨(h3 q hq).1.moved (h3 q hq).2 hW.alike, (h3 q hq).2⟩, fun C hC => va_AO.moved hW.alike (h4 C hC), fun q hq => (h5 q hq).moved hW.alike, fun q hq => (h6 q hq).warm hW, h7.to hW.alike hz hk, h8, h9.moved hW.alike, h10.moved hW.alike⟩
abbrev MC : Type := Program × Launch × Env × Room × State × MethodId × Array Value × List Frame × Method × Code
abbrev MC.p (κ : MC) : Program := κ.1
abbrev MC.l (κ : MC) : Launch := κ.2.1
abbrev MC.e (κ : MC) : Env := κ.2.2.1
abbrev MC.R (κ : MC) : Room := κ.2.2.2.1
abbrev MC.s (κ : MC) : State := κ.2.2.2.2.1
abbrev MC.m (κ : MC) : MethodId := κ.2.2.2.2.2.1
abbrev MC.args (κ : MC) : Array Value := κ.2.2.2.2.2.2.1
abbrev MC.below (κ : MC) : List Frame := κ.2.2.2.2.2.2.2.1
abbrev MC.meth (κ : MC) : Method := κ.2.2.2.2.2.2.2.2.1
abbrev MC.c (κ : MC) : Code := κ.2.2.2.2.2.2.2.2.2
def rmd (d mc ms : Nat) : Room := { frames := d, cells := mc, slots := ms, locals := 100 * d }
/-- what a method's walk has at hand -/
def Cx (l : Launch) (g : GE) (A : Nat → Prop) (κ : MC) (own : String) (cc : ByteArray) (L : Nat) (ret : Option FieldType) (d mc ms : Nat) (hh : List (Nat × Nat × Nat × Nat)) (y : MethodName) : Prop :=
  κ.p.tables.exec = Jvm.exec ∧ κ.c.code = cc ∧ κ.meth.sig.returnType = ret ∧ κ.c.maxLocals = L ∧ κ.s.vm.findClass own = some κ.m.cls ∧ (∀ w ∈ lw_all, w.before κ.args κ.s = true) ∧ κ.meth.locks = false ∧ κ.R = rmd d mc ms ∧ World g A κ.s κ.s.heap ∧ κ.l = l ∧ l.stackTraces = false ∧ κ.c.exceptionTable.toList = tableOf hh ∧ κ.meth.name = y.name
/-- the walk at pc: heap h, locals lv, stack st; k cells of n slots made so far -/
def V (g : GE) (A : Nat → Prop) (κ : MC) (L : Nat) (Q : State → Prop) (k n : Nat) (h : AHT) (pc : Nat) (lv : List (Nat × Value)) (st : List Value) : Prop :=
  ∀ (H : Heap) (locs : List Loc) (ls : Array Slot), R_ g A h H → va_S A κ.s.heap H locs → lv_has ls L lv → W κ.p κ.l κ.e κ.R κ.s κ.m κ.args κ.below κ.meth κ.c H locs k n Q (F0 κ.m pc ls st)
/-- an exception of class E, the object q, is on its way -/
def VX (g : GE) (A : Nat → Prop) (κ : MC) (L : Nat) (Q : State → Prop) (k n : Nat) (h : AHT) (pc : Nat) (lv : List (Nat × Value)) (E : String) (q : Nat) : Prop :=
  ∀ (H : Heap) (locs : List Loc) (ls : Array Slot) (st : List Value) (ce : Cell), R_ g A h H → va_S A κ.s.heap H locs → lv_has ls L lv → H[q]? = some ce → ce.vm = .none → κ.s.vm.findClass E = some ce.cls → vx_W κ.p κ.l κ.e κ.R κ.s κ.m κ.args κ.below κ.meth κ.c H locs k n Q (F0 κ.m pc ls st) q
def UPc (g : GE) (A : Nat → Prop) (av : List Value) (h : AHT) : Array Value → State → Prop := va_Pc av (fun U => World g A U U.heap ∧ R_ g A h U.heap)
def UQ (g : GE) (A : Nat → Prop) (post : Option Value → AHT → Prop) : Array Value → State → Outcome → State → Prop := fun _ st oc t => (∃ (v : Option Value) (h' : AHT), oc = .returned v ∧ post v h' ∧ R_ g A h' t.heap) ∧ va_F A st t
def UX (g : GE) (A : Nat → Prop) (px : String → Nat → AHT → Prop) : String → Addr → State → State → Prop := fun E q st t => (∃ h' : AHT, px E q h' ∧ R_ g A h' t.heap) ∧ va_F A st t
def noX : String → Nat → AHT → Prop := fun _ _ _ => False
def QU (g : GE) (A : Nat → Prop) (κ : MC) (post : Option Value → AHT → Prop) (px : String → Nat → AHT → Prop) (mc ms : Nat) : State → Prop := vx_MQ κ.below (UQ g A post) (UX g A px) κ.args κ.s mc ms A
/-- THE CONTRACT of the method y: from the arguments av and the heap h it returns with post, or throws with px; it goes d deep, makes at most mc cells of ms slots -/
def U_ (l : Launch) (g : GE) (A : Nat → Prop) (y : MethodName) (d mc ms : Nat) (av : List Value) (h : AHT) (post : Option Value → AHT → Prop) (px : String → Nat → AHT → Prop) : Prop :=
  ∃ (bytes : ByteArray) (maxL : Nat) (rt : Option FieldType), (y.cls ≠ "java/lang/invoke/MethodHandle" ∧ y.cls ≠ "java/lang/invoke/VarHandle") ∧ Cond.initialized y.cls ∈ lw_all ∧ maxL ≤ 80 ∧ (y.name = "<init>" → rt = none) ∧
    Cond.code y bytes maxL rt ∈ lw_all ∧ vx_Met l y (ws_ y bytes maxL rt) (rmd d mc ms) (UPc g A av h) (UQ g A post) (UX g A px) mc ms A
/-- the same of a method with handlers -/
def Uw_ (l : Launch) (g : GE) (A : Nat → Prop) (y : MethodName) (d mc ms : Nat) (av : List Value) (h : AHT) (post : Option Value → AHT → Prop) (px : String → Nat → AHT → Prop) : Prop :=
  ∃ (bytes : ByteArray) (maxL : Nat) (rt : Option FieldType) (hh : List (Nat × Nat × Nat × Nat)), (y.cls ≠ "java/lang/invoke/MethodHandle" ∧ y.cls ≠ "java/lang/invoke/VarHandle") ∧ Cond.initialized y.cls ∈ lw_all ∧ maxL ≤ 80 ∧ (y.name = "<init>" → rt = none) ∧
    Cond.codeWith y bytes maxL rt hh ∈ lw_all ∧ vx_Met l y (wsW_ y bytes maxL rt hh) (rmd d mc ms) (UPc g A av h) (UQ g A post) (UX g A px) mc ms A
theorem V.entry {l : Launch} {g : GE} {A : Nat → Prop} {κ : MC} {L : Nat} {Q : State → Prop} {h : AHT} {av : List Value} (hle : (lg_sl av).length ≤ L) (hR : R_ g A h κ.s.heap) (hv : V g A κ L Q 0 0 h 0 (lv_args 0 av) []) : W κ.p κ.l κ.e κ.R κ.s κ.m κ.args κ.below κ.meth κ.c κ.s.heap [] 0 0 Q (entryFrame κ.m av.toArray L) := by
  have hl := lv_entry av (n := L) hle
  rw [lg_entry_eq]
  exact hv _ _ _ hR va_S.rf hl
theorem U_.of {l : Launch} {g : GE} {A : Nat → Prop} {own : String} {cc : ByteArray} {L : Nat} {ret : Option FieldType} {d mc ms : Nat} {av : List Value} {h : AHT} {post : Option Value → AHT → Prop} {px : String → Nat → AHT → Prop} {y : MethodName} (hst : l.stackTraces = false)
    (hown : y.cls = own) (hpl : plainFor y = true) (hmh : y.cls ≠ "java/lang/invoke/MethodHandle" ∧ y.cls ≠ "java/lang/invoke/VarHandle") (hcode : Cond.code y cc L ret ∈ lw_all) (hini : Cond.initialized y.cls ∈ lw_all) (hL : L ≤ 80) (hir : y.name = "<init>" → ret = none) (hle : (lg_sl av).length ≤ L)
    (body : ∀ κ : MC, Cx l g A κ own cc L ret d mc ms [] y → V g A κ L (QU g A κ post px mc ms) 0 0 h 0 (lv_args 0 av) []) : U_ l g A y d mc ms av h post px := by
  refine ⟨cc, L, ret, hmh, hini, hL, hir, hcode, ?_⟩
  refine vx_ofW (cc := cc) (maxL := L) (ret := ret) hpl rfl ?_
  intro p e s m args below meth c s₁ B hml hex hv
  obtain ⟨rfl, hW, hR⟩ := hv
  have hts0 := atoms_spec (ws := ws_ y cc L ret) B.pre
  have hts : ∀ w ∈ lw_all, w.before _ s = true := fun w h => hts0 w (List.mem_cons_of_mem _ h)
  have hown2 : s.vm.findClass own = some m.cls := by rw [← hown]; exact findClass_of_methodNamed B.named
  have hex2 : c.exceptionTable.toList = tableOf [] := by
    cases hc : c.exceptionTable.toList with
    | nil => rfl
    | cons x t => exact absurd (hex x (by rw [hc]; exact List.mem_cons_self)) id
  have key := body (p, l, e, rmd d mc ms, s, m, av.toArray, below, meth, c) ⟨B.exec, B.bytes, B.returns, hml, hown2, hts, B.notSynchronized, rfl, hW, rfl, hst, hex2, (name_of_methodNamed B.named B.method).1⟩
  exact V.entry (l := l) (κ := (p, l, e, rmd d mc ms, s, m, av.toArray, below, meth, c)) hle hR key
theorem U_.ofW {l : Launch} {g : GE} {A : Nat → Prop} {own : String} {cc : ByteArray} {L : Nat} {ret : Option FieldType} {d mc ms : Nat} {av : List Value} {h : AHT} {post : Option Value → AHT → Prop} {px : String → Nat → AHT → Prop} {y : MethodName} {hh : List (Nat × Nat × Nat × Nat)} (hst : l.stackTraces = false)
    (hown : y.cls = own) (hpl : plainFor y = true) (hmh : y.cls ≠ "java/lang/invoke/MethodHandle" ∧ y.cls ≠ "java/lang/invoke/VarHandle") (hcode : Cond.codeWith y cc L ret hh ∈ lw_all) (hini : Cond.initialized y.cls ∈ lw_all) (hL : L ≤ 80) (hir : y.name = "<init>" → ret = none) (hle : (lg_sl av).length ≤ L)
    (body : ∀ κ : MC, Cx l g A κ own cc L ret d mc ms hh y → V g A κ L (QU g A κ post px mc ms) 0 0 h 0 (lv_args 0 av) []) : Uw_ l g A y d mc ms av h post px := by
  refine ⟨cc, L, ret, hh, hmh, hini, hL, hir, hcode, ?_⟩
  refine vx_ofWH (cc := cc) (maxL := L) (ret := ret) (hh := hh) hpl rfl ?_
  intro p e s m args below meth c s₁ B hml hv
  obtain ⟨rfl, hW, hR⟩ := hv
  have hts0 := atoms_spec (ws := wsW_ y cc L ret hh) B.pre
  have hts : ∀ w ∈ lw_all, w.before _ s = true := fun w h => hts0 w (List.mem_cons_of_mem _ h)
  have hown2 : s.vm.findClass own = some m.cls := by rw [← hown]; exact findClass_of_methodNamed B.named
  have key := body (p, l, e, rmd d mc ms, s, m, av.toArray, below, meth, c) ⟨B.exec, B.bytes, B.returns, hml, hown2, hts, B.notSynchronized, rfl, hW, rfl, hst, vx_table (x := y) B (hts0 _ List.mem_cons_self), (name_of_methodNamed B.named B.method).1⟩
  exact V.entry (l := l) (κ := (p, l, e, rmd d mc ms, s, m, av.toArray, below, meth, c)) hle hR key
