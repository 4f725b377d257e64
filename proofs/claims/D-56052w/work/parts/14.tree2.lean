/-! JDK: TreeMap, searching and putting -/
set_option maxRecDepth 100000
theorem V.loop {α : Type} {g : GE} {A : Nat → Prop} {κ : MC} {L : Nat} {Q : State → Prop} {pc : Nat} (f : α → Nat) (P : α → Prop) (K N : α → Nat) (H : α → AHT) (LV : α → List (Nat × Value)) (ST : α → List Value)
    (step : ∀ a, P a → (∀ b, f b < f a → P b → V g A κ L Q (K b) (N b) (H b) pc (LV b) (ST b)) → V g A κ L Q (K a) (N a) (H a) pc (LV a) (ST a)) (a0 : α) (h0 : P a0) : V g A κ L Q (K a0) (N a0) (H a0) pc (LV a0) (ST a0) := by
  have h : ∀ (m : Nat) (a : α), f a = m → P a → V g A κ L Q (K a) (N a) (H a) pc (LV a) (ST a) := by
    intro m
    induction m using Nat.strongRecOn with
    | ind m ih => exact fun a e hp => step a hp (fun b hb hpb => ih (f b) (e ▸ hb) b rfl hpb)
  exact h _ a0 rfl h0
theorem cmpI_lt {x y : Int32} : cmpI x y < 0 ↔ x < y := by
  unfold cmpI
  by_cases h : y ≤ x
  · rw [if_pos h]
    constructor
    · intro e; split at e <;> exact absurd e (by decide)
    · intro e; exact absurd h (Int32.not_le.mpr e)
  · rw [if_neg h]; exact ⟨fun _ => Int32.not_le.mp h, fun _ => by decide⟩
theorem cmpI_gt {x y : Int32} : 0 < cmpI x y ↔ y < x := by
  unfold cmpI
  by_cases h : y ≤ x
  · rw [if_pos h]
    by_cases h2 : x = y
    · rw [if_pos h2, h2]; exact ⟨fun e => absurd e (by decide), fun e => absurd e (Int32.lt_irrefl)⟩
    · rw [if_neg h2]; exact ⟨fun _ => Int32.lt_of_le_of_ne h (fun e => h2 e.symm), fun _ => by decide⟩
  · rw [if_neg h]; exact ⟨fun e => absurd e (by decide), fun e => absurd (Int32.le_of_lt e) h⟩
theorem cmpI_eq {x y : Int32} (h1 : 0 ≤ cmpI x y) (h2 : cmpI x y ≤ 0) : x = y := by
  have h3 := fun e => Int32.not_le.mpr (cmpI_lt.mpr e) h1
  have h4 := fun e => Int32.not_le.mpr (cmpI_gt.mpr e) h2
  exact Int32.le_antisymm (Int32.not_lt.mp h4) (Int32.not_lt.mp h3)
theorem Inv.root_some {E : List Nat} {ix lo hi : Nat → Nat} {lf rt pa : Nat → Option Nat} {root : Option Nat} (h : Inv E ix lo hi lf rt pa root) {x : Nat} (hx : x ∈ E) : ∃ r, root = some r := by
  cases e : root with
  | none => have := h.2.2.2.2.2.1 e; exact absurd (List.eq_nil_of_length_eq_zero this) (List.ne_nil_of_mem hx)
  | some r => exact ⟨r, rfl⟩
theorem unc (o : Option Nat) (co : Nat → Bool) : (∃ u, o = some u ∧ co u = false) ∨ Option.elim o true co = true := by
  cases o with
  | none => exact Or.inr rfl
  | some u => cases h : co u with
    | false => exact Or.inl ⟨u, rfl, h⟩
    | true => exact Or.inr h

abbrev cJ26_requireNonNull : ByteArray := prog_62_method_10_code
def yJ26_requireNonNull : MethodName := ⟨RJ26, "requireNonNull", "(Ljava/lang/Object;)Ljava/lang/Object;"⟩
def dkwJ26_requireNonNull_0 : List UInt8 := [42, 199, 0, 11, 187, 0, 84, 89, 183, 0, 86, 191, 42, 176]
abbrev dktJ26_requireNonNull_0 : List UInt8 := dkwJ26_requireNonNull_0 ++ []
theorem dksJ26_requireNonNull_0 : cJ26_requireNonNull.data.toList.drop 0 = dktJ26_requireNonNull_0 := by decide +kernel
theorem dJ26_requireNonNull_0 : decode cJ26_requireNonNull 0 = .ok (.aload_n 0, 1) := dk_42 (dk_at dksJ26_requireNonNull_0 0 rfl rfl)
theorem dJ26_requireNonNull_1 : decode cJ26_requireNonNull 1 = .ok (.ifnonnull 11, 3) := dk_199 0 11 (dk_at dksJ26_requireNonNull_0 1 rfl rfl)
theorem dJ26_requireNonNull_4 : decode cJ26_requireNonNull 4 = .ok (.new 84, 3) := dk_187 0 84 (dk_at dksJ26_requireNonNull_0 4 rfl rfl)
theorem dJ26_requireNonNull_7 : decode cJ26_requireNonNull 7 = .ok (.dup, 1) := dk_89 (dk_at dksJ26_requireNonNull_0 7 rfl rfl)
theorem dJ26_requireNonNull_8 : decode cJ26_requireNonNull 8 = .ok (.invokespecial 86, 3) := dk_183 0 86 (dk_at dksJ26_requireNonNull_0 8 rfl rfl)
theorem dJ26_requireNonNull_11 : decode cJ26_requireNonNull 11 = .ok (.athrow, 1) := dk_191 (dk_at dksJ26_requireNonNull_0 11 rfl rfl)
theorem dJ26_requireNonNull_12 : decode cJ26_requireNonNull 12 = .ok (.aload_n 0, 1) := dk_42 (dk_at dksJ26_requireNonNull_0 12 rfl rfl)
theorem dJ26_requireNonNull_13 : decode cJ26_requireNonNull 13 = .ok (.areturn, 1) := dk_176 (dk_at dksJ26_requireNonNull_0 13 rfl rfl)
set_option maxHeartbeats 4000000 in
theorem m_reqNN (l : Launch) (hl : l.stackTraces = false) (g : GE) (A : Nat → Prop) (h : AHT) (a : Nat) : U_ l g A yJ26_requireNonNull 1 0 0 [.ref a] h (fun v h' => v = some (.ref a) ∧ h = h') noX := by
  refine U_.of (own := RJ26) (cc := cJ26_requireNonNull) (L := 1) (ret := (some (Jvm.ClassFile.FieldType.object "java/lang/Object"))) hl rfl (plainFor_of_name (by decide)) ⟨by decide, by decide⟩ q685 q115 (by decide) (fun e => absurd e (by decide)) (Nat.le_of_ble_eq_true rfl) (fun κ cx => ?_)
  show V g A κ _ _ 0 0 h 0 [(0, .ref a)] []
  refine V.aload_n cx dJ26_requireNonNull_0 rfl 0 rfl ?_
  refine V.ifnonnull (tgt := 12) cx dJ26_requireNonNull_1 (by decide) ?_
  refine V.aload_n cx dJ26_requireNonNull_12 rfl 0 rfl ?_
  exact V.areturn cx rfl (Or.inl ⟨_, rfl⟩) ⟨rfl, rfl⟩ (by decide) (by decide) dJ26_requireNonNull_13
abbrev cJ1_getEntry : ByteArray := prog_68_method_15_code
def yJ1_getEntry : MethodName := ⟨RJ1, "getEntry", "(Ljava/lang/Object;)Ljava/util/TreeMap$Entry;"⟩
def dkwJ1_getEntry_3 : List UInt8 := [45, 176, 167, 255, 212, 1, 176]
abbrev dktJ1_getEntry_3 : List UInt8 := dkwJ1_getEntry_3 ++ []
def dkwJ1_getEntry_2 : List UInt8 := [156, 0, 11, 45, 180, 0, 111, 78, 167, 0, 18, 21, 4, 158, 0, 11, 45, 180, 0, 114, 78, 167, 0, 5]
abbrev dktJ1_getEntry_2 : List UInt8 := dkwJ1_getEntry_2 ++ dktJ1_getEntry_3
def dkwJ1_getEntry_1 : List UInt8 := [180, 0, 101, 78, 45, 198, 0, 46, 44, 45, 180, 0, 105, 185, 0, 107, 2, 0, 54, 4, 21, 4]
abbrev dktJ1_getEntry_1 : List UInt8 := dkwJ1_getEntry_1 ++ dktJ1_getEntry_2
def dkwJ1_getEntry_0 : List UInt8 := [42, 180, 0, 16, 198, 0, 9, 42, 43, 182, 0, 92, 176, 43, 184, 0, 95, 87, 43, 192, 0, 99, 77, 42]
abbrev dktJ1_getEntry_0 : List UInt8 := dkwJ1_getEntry_0 ++ dktJ1_getEntry_1
theorem dksJ1_getEntry_0 : cJ1_getEntry.data.toList.drop 0 = dktJ1_getEntry_0 := by decide +kernel
theorem dksJ1_getEntry_1 : cJ1_getEntry.data.toList.drop 24 = dktJ1_getEntry_1 := dk_seg dksJ1_getEntry_0 24 rfl rfl
theorem dksJ1_getEntry_2 : cJ1_getEntry.data.toList.drop 46 = dktJ1_getEntry_2 := dk_seg dksJ1_getEntry_1 22 rfl rfl
theorem dksJ1_getEntry_3 : cJ1_getEntry.data.toList.drop 70 = dktJ1_getEntry_3 := dk_seg dksJ1_getEntry_2 24 rfl rfl
theorem dJ1_getEntry_0 : decode cJ1_getEntry 0 = .ok (.aload_n 0, 1) := dk_42 (dk_at dksJ1_getEntry_0 0 rfl rfl)
theorem dJ1_getEntry_1 : decode cJ1_getEntry 1 = .ok (.getfield 16, 3) := dk_180 0 16 (dk_at dksJ1_getEntry_0 1 rfl rfl)
theorem dJ1_getEntry_4 : decode cJ1_getEntry 4 = .ok (.ifnull 9, 3) := dk_198 0 9 (dk_at dksJ1_getEntry_0 4 rfl rfl)
theorem dJ1_getEntry_7 : decode cJ1_getEntry 7 = .ok (.aload_n 0, 1) := dk_42 (dk_at dksJ1_getEntry_0 7 rfl rfl)
theorem dJ1_getEntry_8 : decode cJ1_getEntry 8 = .ok (.aload_n 1, 1) := dk_43 (dk_at dksJ1_getEntry_0 8 rfl rfl)
theorem dJ1_getEntry_9 : decode cJ1_getEntry 9 = .ok (.invokevirtual 92, 3) := dk_182 0 92 (dk_at dksJ1_getEntry_0 9 rfl rfl)
theorem dJ1_getEntry_12 : decode cJ1_getEntry 12 = .ok (.areturn, 1) := dk_176 (dk_at dksJ1_getEntry_0 12 rfl rfl)
theorem dJ1_getEntry_13 : decode cJ1_getEntry 13 = .ok (.aload_n 1, 1) := dk_43 (dk_at dksJ1_getEntry_0 13 rfl rfl)
theorem dJ1_getEntry_14 : decode cJ1_getEntry 14 = .ok (.invokestatic 95, 3) := dk_184 0 95 (dk_at dksJ1_getEntry_0 14 rfl rfl)
theorem dJ1_getEntry_17 : decode cJ1_getEntry 17 = .ok (.pop, 1) := dk_87 (dk_at dksJ1_getEntry_0 17 rfl rfl)
theorem dJ1_getEntry_18 : decode cJ1_getEntry 18 = .ok (.aload_n 1, 1) := dk_43 (dk_at dksJ1_getEntry_0 18 rfl rfl)
theorem dJ1_getEntry_19 : decode cJ1_getEntry 19 = .ok (.checkcast 99, 3) := dk_192 0 99 (dk_at dksJ1_getEntry_0 19 rfl rfl)
theorem dJ1_getEntry_22 : decode cJ1_getEntry 22 = .ok (.astore_n 2, 1) := dk_77 (dk_at dksJ1_getEntry_0 22 rfl rfl)
theorem dJ1_getEntry_23 : decode cJ1_getEntry 23 = .ok (.aload_n 0, 1) := dk_42 (dk_at dksJ1_getEntry_0 23 rfl rfl)
theorem dJ1_getEntry_24 : decode cJ1_getEntry 24 = .ok (.getfield 101, 3) := dk_180 0 101 (dk_at dksJ1_getEntry_1 0 rfl rfl)
theorem dJ1_getEntry_27 : decode cJ1_getEntry 27 = .ok (.astore_n 3, 1) := dk_78 (dk_at dksJ1_getEntry_1 3 rfl rfl)
theorem dJ1_getEntry_28 : decode cJ1_getEntry 28 = .ok (.aload_n 3, 1) := dk_45 (dk_at dksJ1_getEntry_1 4 rfl rfl)
theorem dJ1_getEntry_29 : decode cJ1_getEntry 29 = .ok (.ifnull 46, 3) := dk_198 0 46 (dk_at dksJ1_getEntry_1 5 rfl rfl)
theorem dJ1_getEntry_32 : decode cJ1_getEntry 32 = .ok (.aload_n 2, 1) := dk_44 (dk_at dksJ1_getEntry_1 8 rfl rfl)
theorem dJ1_getEntry_33 : decode cJ1_getEntry 33 = .ok (.aload_n 3, 1) := dk_45 (dk_at dksJ1_getEntry_1 9 rfl rfl)
theorem dJ1_getEntry_34 : decode cJ1_getEntry 34 = .ok (.getfield 105, 3) := dk_180 0 105 (dk_at dksJ1_getEntry_1 10 rfl rfl)
theorem dJ1_getEntry_37 : decode cJ1_getEntry 37 = .ok (.invokeinterface 107 2, 5) := by decide +kernel
theorem dJ1_getEntry_42 : decode cJ1_getEntry 42 = .ok (.istore 4, 2) := dk_54 4 (dk_at dksJ1_getEntry_1 18 rfl rfl)
theorem dJ1_getEntry_44 : decode cJ1_getEntry 44 = .ok (.iload 4, 2) := dk_21 4 (dk_at dksJ1_getEntry_1 20 rfl rfl)
theorem dJ1_getEntry_46 : decode cJ1_getEntry 46 = .ok (.ifCond .ge 11, 3) := dk_156 0 11 (dk_at dksJ1_getEntry_2 0 rfl rfl)
theorem dJ1_getEntry_49 : decode cJ1_getEntry 49 = .ok (.aload_n 3, 1) := dk_45 (dk_at dksJ1_getEntry_2 3 rfl rfl)
theorem dJ1_getEntry_50 : decode cJ1_getEntry 50 = .ok (.getfield 111, 3) := dk_180 0 111 (dk_at dksJ1_getEntry_2 4 rfl rfl)
theorem dJ1_getEntry_53 : decode cJ1_getEntry 53 = .ok (.astore_n 3, 1) := dk_78 (dk_at dksJ1_getEntry_2 7 rfl rfl)
theorem dJ1_getEntry_54 : decode cJ1_getEntry 54 = .ok (.goto 18, 3) := dk_167 0 18 (dk_at dksJ1_getEntry_2 8 rfl rfl)
theorem dJ1_getEntry_57 : decode cJ1_getEntry 57 = .ok (.iload 4, 2) := dk_21 4 (dk_at dksJ1_getEntry_2 11 rfl rfl)
theorem dJ1_getEntry_59 : decode cJ1_getEntry 59 = .ok (.ifCond .le 11, 3) := dk_158 0 11 (dk_at dksJ1_getEntry_2 13 rfl rfl)
theorem dJ1_getEntry_62 : decode cJ1_getEntry 62 = .ok (.aload_n 3, 1) := dk_45 (dk_at dksJ1_getEntry_2 16 rfl rfl)
theorem dJ1_getEntry_63 : decode cJ1_getEntry 63 = .ok (.getfield 114, 3) := dk_180 0 114 (dk_at dksJ1_getEntry_2 17 rfl rfl)
theorem dJ1_getEntry_66 : decode cJ1_getEntry 66 = .ok (.astore_n 3, 1) := dk_78 (dk_at dksJ1_getEntry_2 20 rfl rfl)
theorem dJ1_getEntry_67 : decode cJ1_getEntry 67 = .ok (.goto 5, 3) := dk_167 0 5 (dk_at dksJ1_getEntry_2 21 rfl rfl)
theorem dJ1_getEntry_70 : decode cJ1_getEntry 70 = .ok (.aload_n 3, 1) := dk_45 (dk_at dksJ1_getEntry_3 0 rfl rfl)
theorem dJ1_getEntry_71 : decode cJ1_getEntry 71 = .ok (.areturn, 1) := dk_176 (dk_at dksJ1_getEntry_3 1 rfl rfl)
theorem dJ1_getEntry_72 : decode cJ1_getEntry 72 = .ok (.goto (-44), 3) := dk_167 255 212 (dk_at dksJ1_getEntry_3 2 rfl rfl)
theorem dJ1_getEntry_75 : decode cJ1_getEntry 75 = .ok (.aconst_null, 1) := dk_1 (dk_at dksJ1_getEntry_3 5 rfl rfl)
theorem dJ1_getEntry_76 : decode cJ1_getEntry 76 = .ok (.areturn, 1) := dk_176 (dk_at dksJ1_getEntry_3 6 rfl rfl)
set_option maxHeartbeats 4000000 in
theorem m_getEntry (l : Launch) (hl : l.stackTraces = false) (g : GE) (A : Nat → Prop) (E : List Nat) (tm : Nat) (ka va : Nat → Nat) (lf rt pa : Nat → Option Nat) (co : Nat → Bool) (vl root : Option Nat) (n : Nat) (md : Int32) (h0 : AHT) (ix lo hi : Nat → Nat) (hI : Inv E ix lo hi lf rt pa root) (ht : tm ∉ E) (kk : Nat → Int32) (hkk : ∀ e, e ∈ E → isInt g (tmO E tm ka va lf rt pa co vl root n md h0) (ka e) (kk e)) (hso : ∀ a b, a ∈ E → b ∈ E → ix a < ix b → kk a < kk b) (kr : Nat) (k : Int32) (hk : isInt g (tmO E tm ka va lf rt pa co vl root n md h0) kr k) : U_ l g A yJ1_getEntry 4 0 0 [.ref tm, .ref kr] (tmO E tm ka va lf rt pa co vl root n md h0) (fun v h' => ∃ r : Option Nat, v = some (va_rf r) ∧ (tmO E tm ka va lf rt pa co vl root n md h0) = h' ∧ (∀ e, r = some e → e ∈ E ∧ kk e = k) ∧ (r = none → ∀ e, e ∈ E → kk e ≠ k)) noX := by
  refine U_.of (own := RJ1) (cc := cJ1_getEntry) (L := 5) (ret := (some (Jvm.ClassFile.FieldType.object "java/util/TreeMap$Entry"))) hl rfl (plainFor_of_name (by decide)) ⟨by decide, by decide⟩ q674 q85 (by decide) (fun e => absurd e (by decide)) (Nat.le_of_ble_eq_true rfl) (fun κ cx => ?_)
  show V g A κ _ _ 0 0 (tmO E tm ka va lf rt pa co vl root n md h0) 0 [(0, .ref tm), (1, .ref kr)] []
  have hinj := fun a b => @Inv.inj E ix lo hi lf rt pa root hI a b
  obtain ⟨i0, i1, i2, i3, i4, i5⟩ := hI
  refine V.aload_n cx dJ1_getEntry_0 rfl 0 rfl ?_
  refine V.get cx kJ1 (tm_t ht) 2 (by decide) q157 rfl rfl dJ1_getEntry_1 ?_
  show V g A κ _ _ 0 0 (tmO E tm ka va lf rt pa co vl root n md h0) 4 [(0, .ref tm), (1, .ref kr)] [.null]
  refine V.ifnullN (tgt := 13) cx dJ1_getEntry_4 (by decide) ?_
  refine V.aload_n cx dJ1_getEntry_13 rfl 1 rfl ?_
  refine V.callS (As := [.ref kr]) (rest := []) cx (m_reqNN l hl g A (tmO E tm ka va lf rt pa co vl root n md h0) kr) q683 q684 (na := 1) rfl (by decide +kernel) (Nat.le_of_ble_eq_true rfl) (by decide) (by decide) (by decide) rfl dJ1_getEntry_14 (fun _ _ _ hx => hx.elim) (fun v1 h2 hp => ?_)
  obtain ⟨rfl, rfl⟩ := hp
  show V g A κ _ _ 0 0 (tmO E tm ka va lf rt pa co vl root n md h0) 17 [(0, .ref tm), (1, .ref kr)] [.ref kr]
  refine V.pop cx dJ1_getEntry_17 rfl ?_
  refine V.aload_n cx dJ1_getEntry_18 rfl 1 rfl ?_
  refine V.castY cx (C := "java/lang/Integer") hk.rv q686 q709 dJ1_getEntry_19 ?_
  refine V.astore_n (lv' := [(2, .ref kr), (0, .ref tm), (1, .ref kr)]) cx dJ1_getEntry_22 rfl (by decide) rfl ?_
  refine V.aload_n cx dJ1_getEntry_23 rfl 1 rfl ?_
  refine V.get cx kJ1 (tm_t ht) 3 (by decide) q158 rfl rfl dJ1_getEntry_24 ?_
  show V g A κ _ _ 0 0 (tmO E tm ka va lf rt pa co vl root n md h0) 27 [(2, .ref kr), (0, .ref tm), (1, .ref kr)] [va_rf root]
  refine V.astore_nq (lv' := [(3, va_rf root), (2, .ref kr), (0, .ref tm), (1, .ref kr)]) cx dJ1_getEntry_27 rfl (by decide) rfl ?_
  refine V.sub [2, 3, 1, 0] rfl ?_
  refine V.loop (α := (Option Nat)) (fun z9_ => Option.elim (z9_) 0 (fun e => hi e - lo e)) (fun z9_ => (∀ e, (z9_) = some e → e ∈ E) ∧ ∀ e, e ∈ E → kk e = k → ∃ y, (z9_) = some y ∧ lo y ≤ ix e ∧ ix e < hi y) (fun z9_ => 0) (fun z9_ => 0) (fun z9_ => (tmO E tm ka va lf rt pa co vl root n md h0)) (fun z9_ => [(0, .ref tm), (1, .ref kr), (2, .ref kr), (3, va_rf (z9_))]) (fun z9_ => []) (fun x_ hP_ ih_ => ?_) root (by rcases opt_c root with hr9 | ⟨r9, hr9⟩ <;> grind)
  obtain ⟨P1, P2⟩ := hP_
  show V g A κ _ _ 0 0 (tmO E tm ka va lf rt pa co vl root n md h0) 28 [(0, .ref tm), (1, .ref kr), (2, .ref kr), (3, va_rf x_)] []
  rcases opt_c x_ with rfl | ⟨e, rfl⟩
  · show V g A κ _ _ 0 0 (tmO E tm ka va lf rt pa co vl root n md h0) 28 [(0, .ref tm), (1, .ref kr), (2, .ref kr), (3, .null)] []
    refine V.aload_nN cx dJ1_getEntry_28 rfl 3 rfl ?_
    refine V.ifnullN (tgt := 75) cx dJ1_getEntry_29 (by decide) ?_
    refine V.null cx dJ1_getEntry_75 ?_
    exact V.areturnN cx rfl (Or.inl ⟨_, rfl⟩) ⟨none, rfl, rfl, by grind, by grind⟩ (by decide) (by decide) dJ1_getEntry_76
  · show V g A κ _ _ 0 0 (tmO E tm ka va lf rt pa co vl root n md h0) 28 [(0, .ref tm), (1, .ref kr), (2, .ref kr), (3, .ref e)] []
    have he : e ∈ E := P1 e rfl
    refine V.aload_n cx dJ1_getEntry_28 rfl 3 rfl ?_
    refine V.ifnull cx dJ1_getEntry_29 ?_
    refine V.aload_n cx dJ1_getEntry_32 rfl 2 rfl ?_
    refine V.aload_n cx dJ1_getEntry_33 rfl 3 rfl ?_
    refine V.get cx kJ25 (tm_e he) 0 (by decide) q1023 rfl rfl dJ1_getEntry_34 ?_
    show V g A κ _ _ 0 0 (tmO E tm ka va lf rt pa co vl root n md h0) 37 [(0, .ref tm), (1, .ref kr), (2, .ref kr), (3, .ref e)] [.ref (ka e), .ref kr]
    refine V.callF (As := [.ref (ka e)]) (rest := []) (x := ⟨"java/lang/Comparable", "compareTo", "(Ljava/lang/Object;)I"⟩) cx (m_compareTo l hl g A (tmO E tm ka va lf rt pa co vl root n md h0) kr (ka e) k (kk e) hk (hkk e he)) kJ18 hk.rv q688 q710 q712 (by decide) (na := 1) rfl (by decide +kernel) (Nat.le_of_ble_eq_true rfl) (by decide) (by decide) (by decide) rfl dJ1_getEntry_37 (fun _ _ _ hx => hx.elim) (fun v3 h4 hp => ?_)
    obtain ⟨rfl, rfl⟩ := hp
    show V g A κ _ _ 0 0 (tmO E tm ka va lf rt pa co vl root n md h0) 42 [(0, .ref tm), (1, .ref kr), (2, .ref kr), (3, .ref e)] [.int (cmpI k (kk e))]
    refine V.istore (lv' := [(4, .int (cmpI k (kk e))), (0, .ref tm), (1, .ref kr), (2, .ref kr), (3, .ref e)]) cx dJ1_getEntry_42 (by decide) rfl ?_
    refine V.iload cx dJ1_getEntry_44 0 rfl ?_
    refine V.if_ge (tgt := 57) cx dJ1_getEntry_46 (by decide) (fun c_46 => ?_) (fun c_46 => ?_)
    · refine V.iload cx dJ1_getEntry_57 0 rfl ?_
      refine V.if_le (tgt := 70) cx dJ1_getEntry_59 (by decide) (fun c_59 => ?_) (fun c_59 => ?_)
      · have heq := cmpI_eq c_46 c_59
        refine V.aload_n cx dJ1_getEntry_70 rfl 4 rfl ?_
        exact V.areturn cx rfl (Or.inl ⟨_, rfl⟩) ⟨some e, rfl, rfl, by grind, by grind⟩ (by decide) (by decide) dJ1_getEntry_71
      · have hlt := cmpI_gt.mp (Int32.not_le.mp c_59)
        have hne : ∀ y, y ∈ E → kk y = k → ix e < ix y := fun y hy hyk => Nat.not_le.mp fun z => by
          rcases Nat.lt_or_eq_of_le z with z | z
          · exact Int32.lt_asymm (hso y e hy he z) (hyk ▸ hlt)
          · have := hinj y e hy he z; subst this; exact Int32.lt_irrefl (hyk ▸ hlt)
        refine V.aload_n cx dJ1_getEntry_62 rfl 4 rfl ?_
        refine V.get cx kJ25 (tm_e he) 3 (by decide) q1028 rfl rfl dJ1_getEntry_63 ?_
        show V g A κ _ _ 0 0 (tmO E tm ka va lf rt pa co vl root n md h0) 66 [(4, .int (cmpI k (kk e))), (0, .ref tm), (1, .ref kr), (2, .ref kr), (3, .ref e)] [va_rf (rt e)]
        refine V.astore_nq (lv' := [(3, va_rf (rt e)), (4, .int (cmpI k (kk e))), (0, .ref tm), (1, .ref kr), (2, .ref kr)]) cx dJ1_getEntry_66 rfl (by decide) rfl ?_
        refine V.goto (tgt := 72) cx dJ1_getEntry_67 (by decide) ?_
        refine V.goto (tgt := 28) cx dJ1_getEntry_72 (by decide) ?_
        refine V.sub [2, 3, 4, 0] rfl ?_
        exact ih_ (rt e) (by cases hl : rt e <;> simp only [Option.elim] <;> grind) (by refine ⟨by grind, fun y hy hyk => ?_⟩; have h1 := P2 y hy hyk; have h2 := hne y hy hyk; rcases opt_c (rt e) with hz | ⟨z, hz⟩ <;> grind)
    · have hlt := cmpI_lt.mp (Int32.not_le.mp c_46)
      have hne : ∀ y, y ∈ E → kk y = k → ix y < ix e := fun y hy hyk => Nat.not_le.mp fun z => by
        rcases Nat.lt_or_eq_of_le z with z | z
        · exact Int32.lt_asymm (hso e y he hy z) (hyk ▸ hlt)
        · have := hinj e y he hy z; subst this; exact Int32.lt_irrefl (hyk ▸ hlt)
      refine V.aload_n cx dJ1_getEntry_49 rfl 4 rfl ?_
      refine V.get cx kJ25 (tm_e he) 2 (by decide) q1027 rfl rfl dJ1_getEntry_50 ?_
      show V g A κ _ _ 0 0 (tmO E tm ka va lf rt pa co vl root n md h0) 53 [(4, .int (cmpI k (kk e))), (0, .ref tm), (1, .ref kr), (2, .ref kr), (3, .ref e)] [va_rf (lf e)]
      refine V.astore_nq (lv' := [(3, va_rf (lf e)), (4, .int (cmpI k (kk e))), (0, .ref tm), (1, .ref kr), (2, .ref kr)]) cx dJ1_getEntry_53 rfl (by decide) rfl ?_
      refine V.goto (tgt := 72) cx dJ1_getEntry_54 (by decide) ?_
      refine V.goto (tgt := 28) cx dJ1_getEntry_72 (by decide) ?_
      refine V.sub [2, 3, 4, 0] rfl ?_
      exact ih_ (lf e) (by cases hl : lf e <;> simp only [Option.elim] <;> grind) (by refine ⟨by grind, fun y hy hyk => ?_⟩; have h1 := P2 y hy hyk; have h2 := hne y hy hyk; rcases opt_c (lf e) with hz | ⟨z, hz⟩ <;> grind)
abbrev cJ1_get : ByteArray := prog_68_method_8_code
def yJ1_get : MethodName := ⟨RJ1, "get", "(Ljava/lang/Object;)Ljava/lang/Object;"⟩
def dkwJ1_get_0 : List UInt8 := [42, 43, 182, 0, 50, 77, 44, 199, 0, 7, 1, 167, 0, 7, 44, 180, 0, 58, 176]
abbrev dktJ1_get_0 : List UInt8 := dkwJ1_get_0 ++ []
theorem dksJ1_get_0 : cJ1_get.data.toList.drop 0 = dktJ1_get_0 := by decide +kernel
theorem dJ1_get_0 : decode cJ1_get 0 = .ok (.aload_n 0, 1) := dk_42 (dk_at dksJ1_get_0 0 rfl rfl)
theorem dJ1_get_1 : decode cJ1_get 1 = .ok (.aload_n 1, 1) := dk_43 (dk_at dksJ1_get_0 1 rfl rfl)
theorem dJ1_get_2 : decode cJ1_get 2 = .ok (.invokevirtual 50, 3) := dk_182 0 50 (dk_at dksJ1_get_0 2 rfl rfl)
theorem dJ1_get_5 : decode cJ1_get 5 = .ok (.astore_n 2, 1) := dk_77 (dk_at dksJ1_get_0 5 rfl rfl)
theorem dJ1_get_6 : decode cJ1_get 6 = .ok (.aload_n 2, 1) := dk_44 (dk_at dksJ1_get_0 6 rfl rfl)
theorem dJ1_get_7 : decode cJ1_get 7 = .ok (.ifnonnull 7, 3) := dk_199 0 7 (dk_at dksJ1_get_0 7 rfl rfl)
theorem dJ1_get_10 : decode cJ1_get 10 = .ok (.aconst_null, 1) := dk_1 (dk_at dksJ1_get_0 10 rfl rfl)
theorem dJ1_get_11 : decode cJ1_get 11 = .ok (.goto 7, 3) := dk_167 0 7 (dk_at dksJ1_get_0 11 rfl rfl)
theorem dJ1_get_14 : decode cJ1_get 14 = .ok (.aload_n 2, 1) := dk_44 (dk_at dksJ1_get_0 14 rfl rfl)
theorem dJ1_get_15 : decode cJ1_get 15 = .ok (.getfield 58, 3) := dk_180 0 58 (dk_at dksJ1_get_0 15 rfl rfl)
theorem dJ1_get_18 : decode cJ1_get 18 = .ok (.areturn, 1) := dk_176 (dk_at dksJ1_get_0 18 rfl rfl)
set_option maxHeartbeats 4000000 in
theorem m_tmGet (l : Launch) (hl : l.stackTraces = false) (g : GE) (A : Nat → Prop) (E : List Nat) (tm : Nat) (ka va : Nat → Nat) (lf rt pa : Nat → Option Nat) (co : Nat → Bool) (vl root : Option Nat) (n : Nat) (md : Int32) (h0 : AHT) (ix lo hi : Nat → Nat) (hI : Inv E ix lo hi lf rt pa root) (ht : tm ∉ E) (kk : Nat → Int32) (hkk : ∀ e, e ∈ E → isInt g (tmO E tm ka va lf rt pa co vl root n md h0) (ka e) (kk e)) (hso : ∀ a b, a ∈ E → b ∈ E → ix a < ix b → kk a < kk b) (kr : Nat) (k : Int32) (hk : isInt g (tmO E tm ka va lf rt pa co vl root n md h0) kr k) : U_ l g A yJ1_get 5 0 0 [.ref tm, .ref kr] (tmO E tm ka va lf rt pa co vl root n md h0) (fun v h' => ∃ r : Option Nat, v = some (va_rf (Option.map va r)) ∧ (tmO E tm ka va lf rt pa co vl root n md h0) = h' ∧ (∀ e, r = some e → e ∈ E ∧ kk e = k) ∧ (r = none → ∀ e, e ∈ E → kk e ≠ k)) noX := by
  refine U_.of (own := RJ1) (cc := cJ1_get) (L := 3) (ret := (some (Jvm.ClassFile.FieldType.object "java/lang/Object"))) hl rfl (plainFor_of_name (by decide)) ⟨by decide, by decide⟩ q1417 q85 (by decide) (fun e => absurd e (by decide)) (Nat.le_of_ble_eq_true rfl) (fun κ cx => ?_)
  show V g A κ _ _ 0 0 (tmO E tm ka va lf rt pa co vl root n md h0) 0 [(0, .ref tm), (1, .ref kr)] []
  refine V.aload_n cx dJ1_get_0 rfl 0 rfl ?_
  refine V.aload_n cx dJ1_get_1 rfl 1 rfl ?_
  refine V.callV (As := [.ref kr]) (rest := []) (C := "java/util/TreeMap") cx (m_getEntry l hl g A E tm ka va lf rt pa co vl root n md h0 ix lo hi hI ht kk hkk hso kr k hk) rfl q671 q672 q673 (Rv.of kJ1 (tm_t ht)) (na := 1) rfl (by decide +kernel) (Nat.le_of_ble_eq_true rfl) (by decide) (by decide) (by decide) rfl dJ1_get_2 (fun _ _ _ hx => hx.elim) (fun v1 h2 hp => ?_)
  obtain ⟨r_, rfl, rfl, P1, P2⟩ := hp
  show V g A κ _ _ 0 0 (tmO E tm ka va lf rt pa co vl root n md h0) 5 [(0, .ref tm), (1, .ref kr)] [va_rf r_]
  rcases opt_c r_ with rfl | ⟨e, rfl⟩
  · show V g A κ _ _ 0 0 (tmO E tm ka va lf rt pa co vl root n md h0) 5 [(0, .ref tm), (1, .ref kr)] [.null]
    refine V.astore_nN (lv' := [(2, .null), (0, .ref tm), (1, .ref kr)]) cx dJ1_get_5 rfl (by decide) rfl ?_
    refine V.aload_nN cx dJ1_get_6 rfl 0 rfl ?_
    refine V.ifnonnullN cx dJ1_get_7 ?_
    refine V.null cx dJ1_get_10 ?_
    refine V.goto (tgt := 18) cx dJ1_get_11 (by decide) ?_
    exact V.areturnN cx rfl (Or.inl ⟨_, rfl⟩) ⟨none, rfl, rfl, P1, P2⟩ (by decide) (by decide) dJ1_get_18
  · show V g A κ _ _ 0 0 (tmO E tm ka va lf rt pa co vl root n md h0) 5 [(0, .ref tm), (1, .ref kr)] [.ref e]
    refine V.astore_n (lv' := [(2, .ref e), (0, .ref tm), (1, .ref kr)]) cx dJ1_get_5 rfl (by decide) rfl ?_
    refine V.aload_n cx dJ1_get_6 rfl 0 rfl ?_
    refine V.ifnonnull (tgt := 14) cx dJ1_get_7 (by decide) ?_
    refine V.aload_n cx dJ1_get_14 rfl 0 rfl ?_
    refine V.get cx kJ25 (tm_e (P1 e rfl).1) 1 (by decide) q1026 rfl rfl dJ1_get_15 ?_
    show V g A κ _ _ 0 0 (tmO E tm ka va lf rt pa co vl root n md h0) 18 [(2, .ref e), (0, .ref tm), (1, .ref kr)] [.ref (va e)]
    exact V.areturn cx rfl (Or.inl ⟨_, rfl⟩) ⟨some e, rfl, rfl, P1, P2⟩ (by decide) (by decide) dJ1_get_18
abbrev cJ1_containsKey : ByteArray := prog_68_method_6_code
def yJ1_containsKey : MethodName := ⟨RJ1, "containsKey", "(Ljava/lang/Object;)Z"⟩
def dkwJ1_containsKey_0 : List UInt8 := [42, 43, 182, 0, 50, 198, 0, 7, 4, 167, 0, 4, 3, 172]
abbrev dktJ1_containsKey_0 : List UInt8 := dkwJ1_containsKey_0 ++ []
theorem dksJ1_containsKey_0 : cJ1_containsKey.data.toList.drop 0 = dktJ1_containsKey_0 := by decide +kernel
theorem dJ1_containsKey_0 : decode cJ1_containsKey 0 = .ok (.aload_n 0, 1) := dk_42 (dk_at dksJ1_containsKey_0 0 rfl rfl)
theorem dJ1_containsKey_1 : decode cJ1_containsKey 1 = .ok (.aload_n 1, 1) := dk_43 (dk_at dksJ1_containsKey_0 1 rfl rfl)
theorem dJ1_containsKey_2 : decode cJ1_containsKey 2 = .ok (.invokevirtual 50, 3) := dk_182 0 50 (dk_at dksJ1_containsKey_0 2 rfl rfl)
theorem dJ1_containsKey_5 : decode cJ1_containsKey 5 = .ok (.ifnull 7, 3) := dk_198 0 7 (dk_at dksJ1_containsKey_0 5 rfl rfl)
theorem dJ1_containsKey_8 : decode cJ1_containsKey 8 = .ok (.iconst 1, 1) := dk_4 (dk_at dksJ1_containsKey_0 8 rfl rfl)
theorem dJ1_containsKey_9 : decode cJ1_containsKey 9 = .ok (.goto 4, 3) := dk_167 0 4 (dk_at dksJ1_containsKey_0 9 rfl rfl)
theorem dJ1_containsKey_12 : decode cJ1_containsKey 12 = .ok (.iconst 0, 1) := dk_3 (dk_at dksJ1_containsKey_0 12 rfl rfl)
theorem dJ1_containsKey_13 : decode cJ1_containsKey 13 = .ok (.ireturn, 1) := dk_172 (dk_at dksJ1_containsKey_0 13 rfl rfl)
set_option maxHeartbeats 4000000 in
theorem m_tmHas (l : Launch) (hl : l.stackTraces = false) (g : GE) (A : Nat → Prop) (E : List Nat) (tm : Nat) (ka va : Nat → Nat) (lf rt pa : Nat → Option Nat) (co : Nat → Bool) (vl root : Option Nat) (n : Nat) (md : Int32) (h0 : AHT) (ix lo hi : Nat → Nat) (hI : Inv E ix lo hi lf rt pa root) (ht : tm ∉ E) (kk : Nat → Int32) (hkk : ∀ e, e ∈ E → isInt g (tmO E tm ka va lf rt pa co vl root n md h0) (ka e) (kk e)) (hso : ∀ a b, a ∈ E → b ∈ E → ix a < ix b → kk a < kk b) (kr : Nat) (k : Int32) (hk : isInt g (tmO E tm ka va lf rt pa co vl root n md h0) kr k) : U_ l g A yJ1_containsKey 5 0 0 [.ref tm, .ref kr] (tmO E tm ka va lf rt pa co vl root n md h0) (fun v h' => ∃ r : Option Nat, v = some (.int (b2 r.isSome)) ∧ (tmO E tm ka va lf rt pa co vl root n md h0) = h' ∧ (∀ e, r = some e → e ∈ E ∧ kk e = k) ∧ (r = none → ∀ e, e ∈ E → kk e ≠ k)) noX := by
  refine U_.of (own := RJ1) (cc := cJ1_containsKey) (L := 2) (ret := (some Jvm.ClassFile.FieldType.boolean)) hl rfl (plainFor_of_name (by decide)) ⟨by decide, by decide⟩ q670 q85 (by decide) (fun e => absurd e (by decide)) (Nat.le_of_ble_eq_true rfl) (fun κ cx => ?_)
  show V g A κ _ _ 0 0 (tmO E tm ka va lf rt pa co vl root n md h0) 0 [(0, .ref tm), (1, .ref kr)] []
  refine V.aload_n cx dJ1_containsKey_0 rfl 0 rfl ?_
  refine V.aload_n cx dJ1_containsKey_1 rfl 1 rfl ?_
  refine V.callV (As := [.ref kr]) (rest := []) (C := "java/util/TreeMap") cx (m_getEntry l hl g A E tm ka va lf rt pa co vl root n md h0 ix lo hi hI ht kk hkk hso kr k hk) rfl q671 q672 q673 (Rv.of kJ1 (tm_t ht)) (na := 1) rfl (by decide +kernel) (Nat.le_of_ble_eq_true rfl) (by decide) (by decide) (by decide) rfl dJ1_containsKey_2 (fun _ _ _ hx => hx.elim) (fun v1 h2 hp => ?_)
  obtain ⟨r_, rfl, rfl, P1, P2⟩ := hp
  show V g A κ _ _ 0 0 (tmO E tm ka va lf rt pa co vl root n md h0) 5 [(0, .ref tm), (1, .ref kr)] [va_rf r_]
  rcases opt_c r_ with rfl | ⟨e, rfl⟩
  · show V g A κ _ _ 0 0 (tmO E tm ka va lf rt pa co vl root n md h0) 5 [(0, .ref tm), (1, .ref kr)] [.null]
    refine V.ifnullN (tgt := 12) cx dJ1_containsKey_5 (by decide) ?_
    refine V.iconst (v := (nI 0)) cx dJ1_containsKey_12 (by decide) ?_
    refine V.toi (y := b2 false) (by decide) ?_
    exact V.ireturn (x := (b2 false)) cx rfl b2_narrow ⟨none, rfl, rfl, P1, P2⟩ (by decide) (by decide) dJ1_containsKey_13
  · show V g A κ _ _ 0 0 (tmO E tm ka va lf rt pa co vl root n md h0) 5 [(0, .ref tm), (1, .ref kr)] [.ref e]
    refine V.ifnull cx dJ1_containsKey_5 ?_
    refine V.iconst (v := (nI 1)) cx dJ1_containsKey_8 (by decide) ?_
    refine V.goto (tgt := 13) cx dJ1_containsKey_9 (by decide) ?_
    refine V.toi (y := b2 true) (by decide) ?_
    exact V.ireturn (x := (b2 true)) cx rfl b2_narrow ⟨some e, rfl, rfl, P1, P2⟩ (by decide) (by decide) dJ1_containsKey_13
abbrev cJ1_size : ByteArray := prog_68_method_5_code
def yJ1_size : MethodName := ⟨RJ1, "size", "()I"⟩
theorem dJ1_size_0 : decode cJ1_size 0 = .ok (.aload_n 0, 1) := by decide +kernel
theorem dJ1_size_1 : decode cJ1_size 1 = .ok (.getfield 7, 3) := by decide +kernel
theorem dJ1_size_4 : decode cJ1_size 4 = .ok (.ireturn, 1) := by decide +kernel
set_option maxHeartbeats 4000000 in
theorem m_tmSize (l : Launch) (hl : l.stackTraces = false) (g : GE) (A : Nat → Prop) (E : List Nat) (tm : Nat) (ka va : Nat → Nat) (lf rt pa : Nat → Option Nat) (co : Nat → Bool) (vl root : Option Nat) (n : Nat) (md : Int32) (h0 : AHT) (ht : tm ∉ E) : U_ l g A yJ1_size 1 0 0 [.ref tm] (tmO E tm ka va lf rt pa co vl root n md h0) (fun v h' => v = some (.int (nI n)) ∧ (tmO E tm ka va lf rt pa co vl root n md h0) = h') noX := by
  refine U_.of (own := RJ1) (cc := cJ1_size) (L := 1) (ret := (some Jvm.ClassFile.FieldType.int)) hl rfl (plainFor_of_name (by decide)) ⟨by decide, by decide⟩ q282 q85 (by decide) (fun e => absurd e (by decide)) (Nat.le_of_ble_eq_true rfl) (fun κ cx => ?_)
  show V g A κ _ _ 0 0 (tmO E tm ka va lf rt pa co vl root n md h0) 0 [(0, .ref tm)] []
  refine V.aload_n cx dJ1_size_0 rfl 0 rfl ?_
  refine V.get cx kJ1 (tm_t ht) 4 (by decide) q159 rfl rfl dJ1_size_1 ?_
  show V g A κ _ _ 0 0 (tmO E tm ka va lf rt pa co vl root n md h0) 4 [(0, .ref tm)] [.int (nI n)]
  exact V.ireturn (x := (nI n)) cx rfl rfl ⟨rfl, rfl⟩ (by decide) (by decide) dJ1_size_4
abbrev cJ1_fixAfterInsertion : ByteArray := prog_68_method_83_code
def yJ1_fixAfterInsertion : MethodName := ⟨RJ1, "fixAfterInsertion", "(Ljava/util/TreeMap$Entry;)V"⟩
def dkwJ1_fixAfterInsertion_11 : List UInt8 := [42, 180, 0, 101, 4, 181, 1, 34, 177]
abbrev dktJ1_fixAfterInsertion_11 : List UInt8 := dkwJ1_fixAfterInsertion_11 ++ []
def dkwJ1_fixAfterInsertion_10 : List UInt8 := [184, 1, 38, 184, 1, 38, 3, 184, 1, 51, 42, 43, 184, 1, 38, 184, 1, 38, 182, 1, 55, 167, 255, 6]
abbrev dktJ1_fixAfterInsertion_10 : List UInt8 := dkwJ1_fixAfterInsertion_10 ++ dktJ1_fixAfterInsertion_11
def dkwJ1_fixAfterInsertion_9 : List UInt8 := [166, 0, 13, 43, 184, 1, 38, 76, 42, 43, 182, 1, 58, 43, 184, 1, 38, 4, 184, 1, 51, 43]
abbrev dktJ1_fixAfterInsertion_9 : List UInt8 := dkwJ1_fixAfterInsertion_9 ++ dktJ1_fixAfterInsertion_10
def dkwJ1_fixAfterInsertion_8 : List UInt8 := [184, 1, 51, 43, 184, 1, 38, 184, 1, 38, 76, 167, 0, 54, 43, 43, 184, 1, 38, 184, 1, 41]
abbrev dktJ1_fixAfterInsertion_8 : List UInt8 := dkwJ1_fixAfterInsertion_8 ++ dktJ1_fixAfterInsertion_9
def dkwJ1_fixAfterInsertion_7 : List UInt8 := [154, 0, 38, 43, 184, 1, 38, 4, 184, 1, 51, 44, 4, 184, 1, 51, 43, 184, 1, 38, 184, 1, 38, 3]
abbrev dktJ1_fixAfterInsertion_7 : List UInt8 := dkwJ1_fixAfterInsertion_7 ++ dktJ1_fixAfterInsertion_8
def dkwJ1_fixAfterInsertion_6 : List UInt8 := [184, 1, 38, 182, 1, 58, 167, 255, 113, 43, 184, 1, 38, 184, 1, 38, 184, 1, 41, 77, 44, 184, 1, 47]
abbrev dktJ1_fixAfterInsertion_6 : List UInt8 := dkwJ1_fixAfterInsertion_6 ++ dktJ1_fixAfterInsertion_7
def dkwJ1_fixAfterInsertion_5 : List UInt8 := [43, 184, 1, 38, 4, 184, 1, 51, 43, 184, 1, 38, 184, 1, 38, 3, 184, 1, 51, 42, 43, 184, 1, 38]
abbrev dktJ1_fixAfterInsertion_5 : List UInt8 := dkwJ1_fixAfterInsertion_5 ++ dktJ1_fixAfterInsertion_6
def dkwJ1_fixAfterInsertion_4 : List UInt8 := [167, 0, 54, 43, 43, 184, 1, 38, 184, 1, 44, 166, 0, 13, 43, 184, 1, 38, 76, 42, 43, 182, 1, 55]
abbrev dktJ1_fixAfterInsertion_4 : List UInt8 := dkwJ1_fixAfterInsertion_4 ++ dktJ1_fixAfterInsertion_5
def dkwJ1_fixAfterInsertion_3 : List UInt8 := [184, 1, 51, 43, 184, 1, 38, 184, 1, 38, 3, 184, 1, 51, 43, 184, 1, 38, 184, 1, 38, 76]
abbrev dktJ1_fixAfterInsertion_3 : List UInt8 := dkwJ1_fixAfterInsertion_3 ++ dktJ1_fixAfterInsertion_4
def dkwJ1_fixAfterInsertion_2 : List UInt8 := [184, 1, 38, 184, 1, 44, 77, 44, 184, 1, 47, 154, 0, 38, 43, 184, 1, 38, 4, 184, 1, 51, 44, 4]
abbrev dktJ1_fixAfterInsertion_2 : List UInt8 := dkwJ1_fixAfterInsertion_2 ++ dktJ1_fixAfterInsertion_3
def dkwJ1_fixAfterInsertion_1 : List UInt8 := [154, 0, 234, 43, 184, 1, 38, 43, 184, 1, 38, 184, 1, 38, 184, 1, 41, 166, 0, 110, 43, 184, 1, 38]
abbrev dktJ1_fixAfterInsertion_1 : List UInt8 := dkwJ1_fixAfterInsertion_1 ++ dktJ1_fixAfterInsertion_2
def dkwJ1_fixAfterInsertion_0 : List UInt8 := [43, 3, 181, 1, 34, 43, 198, 0, 252, 43, 42, 180, 0, 101, 165, 0, 244, 43, 180, 0, 124, 180, 1, 34]
abbrev dktJ1_fixAfterInsertion_0 : List UInt8 := dkwJ1_fixAfterInsertion_0 ++ dktJ1_fixAfterInsertion_1
theorem dksJ1_fixAfterInsertion_0 : cJ1_fixAfterInsertion.data.toList.drop 0 = dktJ1_fixAfterInsertion_0 := by decide +kernel
theorem dksJ1_fixAfterInsertion_1 : cJ1_fixAfterInsertion.data.toList.drop 24 = dktJ1_fixAfterInsertion_1 := dk_seg dksJ1_fixAfterInsertion_0 24 rfl rfl
theorem dksJ1_fixAfterInsertion_2 : cJ1_fixAfterInsertion.data.toList.drop 48 = dktJ1_fixAfterInsertion_2 := dk_seg dksJ1_fixAfterInsertion_1 24 rfl rfl
theorem dksJ1_fixAfterInsertion_3 : cJ1_fixAfterInsertion.data.toList.drop 72 = dktJ1_fixAfterInsertion_3 := dk_seg dksJ1_fixAfterInsertion_2 24 rfl rfl
theorem dksJ1_fixAfterInsertion_4 : cJ1_fixAfterInsertion.data.toList.drop 94 = dktJ1_fixAfterInsertion_4 := dk_seg dksJ1_fixAfterInsertion_3 22 rfl rfl
theorem dksJ1_fixAfterInsertion_5 : cJ1_fixAfterInsertion.data.toList.drop 118 = dktJ1_fixAfterInsertion_5 := dk_seg dksJ1_fixAfterInsertion_4 24 rfl rfl
theorem dksJ1_fixAfterInsertion_6 : cJ1_fixAfterInsertion.data.toList.drop 142 = dktJ1_fixAfterInsertion_6 := dk_seg dksJ1_fixAfterInsertion_5 24 rfl rfl
theorem dksJ1_fixAfterInsertion_7 : cJ1_fixAfterInsertion.data.toList.drop 166 = dktJ1_fixAfterInsertion_7 := dk_seg dksJ1_fixAfterInsertion_6 24 rfl rfl
theorem dksJ1_fixAfterInsertion_8 : cJ1_fixAfterInsertion.data.toList.drop 190 = dktJ1_fixAfterInsertion_8 := dk_seg dksJ1_fixAfterInsertion_7 24 rfl rfl
theorem dksJ1_fixAfterInsertion_9 : cJ1_fixAfterInsertion.data.toList.drop 212 = dktJ1_fixAfterInsertion_9 := dk_seg dksJ1_fixAfterInsertion_8 22 rfl rfl
theorem dksJ1_fixAfterInsertion_10 : cJ1_fixAfterInsertion.data.toList.drop 234 = dktJ1_fixAfterInsertion_10 := dk_seg dksJ1_fixAfterInsertion_9 22 rfl rfl
theorem dksJ1_fixAfterInsertion_11 : cJ1_fixAfterInsertion.data.toList.drop 258 = dktJ1_fixAfterInsertion_11 := dk_seg dksJ1_fixAfterInsertion_10 24 rfl rfl
theorem dJ1_fixAfterInsertion_0 : decode cJ1_fixAfterInsertion 0 = .ok (.aload_n 1, 1) := dk_43 (dk_at dksJ1_fixAfterInsertion_0 0 rfl rfl)
theorem dJ1_fixAfterInsertion_1 : decode cJ1_fixAfterInsertion 1 = .ok (.iconst 0, 1) := dk_3 (dk_at dksJ1_fixAfterInsertion_0 1 rfl rfl)
theorem dJ1_fixAfterInsertion_2 : decode cJ1_fixAfterInsertion 2 = .ok (.putfield 290, 3) := dk_181 1 34 (dk_at dksJ1_fixAfterInsertion_0 2 rfl rfl)
theorem dJ1_fixAfterInsertion_5 : decode cJ1_fixAfterInsertion 5 = .ok (.aload_n 1, 1) := dk_43 (dk_at dksJ1_fixAfterInsertion_0 5 rfl rfl)
theorem dJ1_fixAfterInsertion_6 : decode cJ1_fixAfterInsertion 6 = .ok (.ifnull 252, 3) := dk_198 0 252 (dk_at dksJ1_fixAfterInsertion_0 6 rfl rfl)
theorem dJ1_fixAfterInsertion_9 : decode cJ1_fixAfterInsertion 9 = .ok (.aload_n 1, 1) := dk_43 (dk_at dksJ1_fixAfterInsertion_0 9 rfl rfl)
theorem dJ1_fixAfterInsertion_10 : decode cJ1_fixAfterInsertion 10 = .ok (.aload_n 0, 1) := dk_42 (dk_at dksJ1_fixAfterInsertion_0 10 rfl rfl)
theorem dJ1_fixAfterInsertion_11 : decode cJ1_fixAfterInsertion 11 = .ok (.getfield 101, 3) := dk_180 0 101 (dk_at dksJ1_fixAfterInsertion_0 11 rfl rfl)
theorem dJ1_fixAfterInsertion_14 : decode cJ1_fixAfterInsertion 14 = .ok (.if_acmp .eq 244, 3) := dk_165 0 244 (dk_at dksJ1_fixAfterInsertion_0 14 rfl rfl)
theorem dJ1_fixAfterInsertion_17 : decode cJ1_fixAfterInsertion 17 = .ok (.aload_n 1, 1) := dk_43 (dk_at dksJ1_fixAfterInsertion_0 17 rfl rfl)
theorem dJ1_fixAfterInsertion_18 : decode cJ1_fixAfterInsertion 18 = .ok (.getfield 124, 3) := dk_180 0 124 (dk_at dksJ1_fixAfterInsertion_0 18 rfl rfl)
theorem dJ1_fixAfterInsertion_21 : decode cJ1_fixAfterInsertion 21 = .ok (.getfield 290, 3) := dk_180 1 34 (dk_at dksJ1_fixAfterInsertion_0 21 rfl rfl)
theorem dJ1_fixAfterInsertion_24 : decode cJ1_fixAfterInsertion 24 = .ok (.ifCond .ne 234, 3) := dk_154 0 234 (dk_at dksJ1_fixAfterInsertion_1 0 rfl rfl)
theorem dJ1_fixAfterInsertion_27 : decode cJ1_fixAfterInsertion 27 = .ok (.aload_n 1, 1) := dk_43 (dk_at dksJ1_fixAfterInsertion_1 3 rfl rfl)
theorem dJ1_fixAfterInsertion_28 : decode cJ1_fixAfterInsertion 28 = .ok (.invokestatic 294, 3) := dk_184 1 38 (dk_at dksJ1_fixAfterInsertion_1 4 rfl rfl)
theorem dJ1_fixAfterInsertion_31 : decode cJ1_fixAfterInsertion 31 = .ok (.aload_n 1, 1) := dk_43 (dk_at dksJ1_fixAfterInsertion_1 7 rfl rfl)
theorem dJ1_fixAfterInsertion_32 : decode cJ1_fixAfterInsertion 32 = .ok (.invokestatic 294, 3) := dk_184 1 38 (dk_at dksJ1_fixAfterInsertion_1 8 rfl rfl)
theorem dJ1_fixAfterInsertion_35 : decode cJ1_fixAfterInsertion 35 = .ok (.invokestatic 294, 3) := dk_184 1 38 (dk_at dksJ1_fixAfterInsertion_1 11 rfl rfl)
theorem dJ1_fixAfterInsertion_38 : decode cJ1_fixAfterInsertion 38 = .ok (.invokestatic 297, 3) := dk_184 1 41 (dk_at dksJ1_fixAfterInsertion_1 14 rfl rfl)
theorem dJ1_fixAfterInsertion_41 : decode cJ1_fixAfterInsertion 41 = .ok (.if_acmp .ne 110, 3) := dk_166 0 110 (dk_at dksJ1_fixAfterInsertion_1 17 rfl rfl)
theorem dJ1_fixAfterInsertion_44 : decode cJ1_fixAfterInsertion 44 = .ok (.aload_n 1, 1) := dk_43 (dk_at dksJ1_fixAfterInsertion_1 20 rfl rfl)
theorem dJ1_fixAfterInsertion_45 : decode cJ1_fixAfterInsertion 45 = .ok (.invokestatic 294, 3) := dk_184 1 38 (dk_at dksJ1_fixAfterInsertion_1 21 rfl rfl)
theorem dJ1_fixAfterInsertion_48 : decode cJ1_fixAfterInsertion 48 = .ok (.invokestatic 294, 3) := dk_184 1 38 (dk_at dksJ1_fixAfterInsertion_2 0 rfl rfl)
theorem dJ1_fixAfterInsertion_51 : decode cJ1_fixAfterInsertion 51 = .ok (.invokestatic 300, 3) := dk_184 1 44 (dk_at dksJ1_fixAfterInsertion_2 3 rfl rfl)
theorem dJ1_fixAfterInsertion_54 : decode cJ1_fixAfterInsertion 54 = .ok (.astore_n 2, 1) := dk_77 (dk_at dksJ1_fixAfterInsertion_2 6 rfl rfl)
theorem dJ1_fixAfterInsertion_55 : decode cJ1_fixAfterInsertion 55 = .ok (.aload_n 2, 1) := dk_44 (dk_at dksJ1_fixAfterInsertion_2 7 rfl rfl)
theorem dJ1_fixAfterInsertion_56 : decode cJ1_fixAfterInsertion 56 = .ok (.invokestatic 303, 3) := dk_184 1 47 (dk_at dksJ1_fixAfterInsertion_2 8 rfl rfl)
theorem dJ1_fixAfterInsertion_59 : decode cJ1_fixAfterInsertion 59 = .ok (.ifCond .ne 38, 3) := dk_154 0 38 (dk_at dksJ1_fixAfterInsertion_2 11 rfl rfl)
theorem dJ1_fixAfterInsertion_62 : decode cJ1_fixAfterInsertion 62 = .ok (.aload_n 1, 1) := dk_43 (dk_at dksJ1_fixAfterInsertion_2 14 rfl rfl)
theorem dJ1_fixAfterInsertion_63 : decode cJ1_fixAfterInsertion 63 = .ok (.invokestatic 294, 3) := dk_184 1 38 (dk_at dksJ1_fixAfterInsertion_2 15 rfl rfl)
theorem dJ1_fixAfterInsertion_66 : decode cJ1_fixAfterInsertion 66 = .ok (.iconst 1, 1) := dk_4 (dk_at dksJ1_fixAfterInsertion_2 18 rfl rfl)
theorem dJ1_fixAfterInsertion_67 : decode cJ1_fixAfterInsertion 67 = .ok (.invokestatic 307, 3) := dk_184 1 51 (dk_at dksJ1_fixAfterInsertion_2 19 rfl rfl)
theorem dJ1_fixAfterInsertion_70 : decode cJ1_fixAfterInsertion 70 = .ok (.aload_n 2, 1) := dk_44 (dk_at dksJ1_fixAfterInsertion_2 22 rfl rfl)
theorem dJ1_fixAfterInsertion_71 : decode cJ1_fixAfterInsertion 71 = .ok (.iconst 1, 1) := dk_4 (dk_at dksJ1_fixAfterInsertion_2 23 rfl rfl)
theorem dJ1_fixAfterInsertion_72 : decode cJ1_fixAfterInsertion 72 = .ok (.invokestatic 307, 3) := dk_184 1 51 (dk_at dksJ1_fixAfterInsertion_3 0 rfl rfl)
theorem dJ1_fixAfterInsertion_75 : decode cJ1_fixAfterInsertion 75 = .ok (.aload_n 1, 1) := dk_43 (dk_at dksJ1_fixAfterInsertion_3 3 rfl rfl)
theorem dJ1_fixAfterInsertion_76 : decode cJ1_fixAfterInsertion 76 = .ok (.invokestatic 294, 3) := dk_184 1 38 (dk_at dksJ1_fixAfterInsertion_3 4 rfl rfl)
theorem dJ1_fixAfterInsertion_79 : decode cJ1_fixAfterInsertion 79 = .ok (.invokestatic 294, 3) := dk_184 1 38 (dk_at dksJ1_fixAfterInsertion_3 7 rfl rfl)
theorem dJ1_fixAfterInsertion_82 : decode cJ1_fixAfterInsertion 82 = .ok (.iconst 0, 1) := dk_3 (dk_at dksJ1_fixAfterInsertion_3 10 rfl rfl)
theorem dJ1_fixAfterInsertion_83 : decode cJ1_fixAfterInsertion 83 = .ok (.invokestatic 307, 3) := dk_184 1 51 (dk_at dksJ1_fixAfterInsertion_3 11 rfl rfl)
theorem dJ1_fixAfterInsertion_86 : decode cJ1_fixAfterInsertion 86 = .ok (.aload_n 1, 1) := dk_43 (dk_at dksJ1_fixAfterInsertion_3 14 rfl rfl)
theorem dJ1_fixAfterInsertion_87 : decode cJ1_fixAfterInsertion 87 = .ok (.invokestatic 294, 3) := dk_184 1 38 (dk_at dksJ1_fixAfterInsertion_3 15 rfl rfl)
theorem dJ1_fixAfterInsertion_90 : decode cJ1_fixAfterInsertion 90 = .ok (.invokestatic 294, 3) := dk_184 1 38 (dk_at dksJ1_fixAfterInsertion_3 18 rfl rfl)
theorem dJ1_fixAfterInsertion_93 : decode cJ1_fixAfterInsertion 93 = .ok (.astore_n 1, 1) := dk_76 (dk_at dksJ1_fixAfterInsertion_3 21 rfl rfl)
theorem dJ1_fixAfterInsertion_94 : decode cJ1_fixAfterInsertion 94 = .ok (.goto 54, 3) := dk_167 0 54 (dk_at dksJ1_fixAfterInsertion_4 0 rfl rfl)
theorem dJ1_fixAfterInsertion_97 : decode cJ1_fixAfterInsertion 97 = .ok (.aload_n 1, 1) := dk_43 (dk_at dksJ1_fixAfterInsertion_4 3 rfl rfl)
theorem dJ1_fixAfterInsertion_98 : decode cJ1_fixAfterInsertion 98 = .ok (.aload_n 1, 1) := dk_43 (dk_at dksJ1_fixAfterInsertion_4 4 rfl rfl)
theorem dJ1_fixAfterInsertion_99 : decode cJ1_fixAfterInsertion 99 = .ok (.invokestatic 294, 3) := dk_184 1 38 (dk_at dksJ1_fixAfterInsertion_4 5 rfl rfl)
theorem dJ1_fixAfterInsertion_102 : decode cJ1_fixAfterInsertion 102 = .ok (.invokestatic 300, 3) := dk_184 1 44 (dk_at dksJ1_fixAfterInsertion_4 8 rfl rfl)
theorem dJ1_fixAfterInsertion_105 : decode cJ1_fixAfterInsertion 105 = .ok (.if_acmp .ne 13, 3) := dk_166 0 13 (dk_at dksJ1_fixAfterInsertion_4 11 rfl rfl)
theorem dJ1_fixAfterInsertion_108 : decode cJ1_fixAfterInsertion 108 = .ok (.aload_n 1, 1) := dk_43 (dk_at dksJ1_fixAfterInsertion_4 14 rfl rfl)
theorem dJ1_fixAfterInsertion_109 : decode cJ1_fixAfterInsertion 109 = .ok (.invokestatic 294, 3) := dk_184 1 38 (dk_at dksJ1_fixAfterInsertion_4 15 rfl rfl)
theorem dJ1_fixAfterInsertion_112 : decode cJ1_fixAfterInsertion 112 = .ok (.astore_n 1, 1) := dk_76 (dk_at dksJ1_fixAfterInsertion_4 18 rfl rfl)
theorem dJ1_fixAfterInsertion_113 : decode cJ1_fixAfterInsertion 113 = .ok (.aload_n 0, 1) := dk_42 (dk_at dksJ1_fixAfterInsertion_4 19 rfl rfl)
theorem dJ1_fixAfterInsertion_114 : decode cJ1_fixAfterInsertion 114 = .ok (.aload_n 1, 1) := dk_43 (dk_at dksJ1_fixAfterInsertion_4 20 rfl rfl)
theorem dJ1_fixAfterInsertion_115 : decode cJ1_fixAfterInsertion 115 = .ok (.invokevirtual 311, 3) := dk_182 1 55 (dk_at dksJ1_fixAfterInsertion_4 21 rfl rfl)
theorem dJ1_fixAfterInsertion_118 : decode cJ1_fixAfterInsertion 118 = .ok (.aload_n 1, 1) := dk_43 (dk_at dksJ1_fixAfterInsertion_5 0 rfl rfl)
theorem dJ1_fixAfterInsertion_119 : decode cJ1_fixAfterInsertion 119 = .ok (.invokestatic 294, 3) := dk_184 1 38 (dk_at dksJ1_fixAfterInsertion_5 1 rfl rfl)
theorem dJ1_fixAfterInsertion_122 : decode cJ1_fixAfterInsertion 122 = .ok (.iconst 1, 1) := dk_4 (dk_at dksJ1_fixAfterInsertion_5 4 rfl rfl)
theorem dJ1_fixAfterInsertion_123 : decode cJ1_fixAfterInsertion 123 = .ok (.invokestatic 307, 3) := dk_184 1 51 (dk_at dksJ1_fixAfterInsertion_5 5 rfl rfl)
theorem dJ1_fixAfterInsertion_126 : decode cJ1_fixAfterInsertion 126 = .ok (.aload_n 1, 1) := dk_43 (dk_at dksJ1_fixAfterInsertion_5 8 rfl rfl)
theorem dJ1_fixAfterInsertion_127 : decode cJ1_fixAfterInsertion 127 = .ok (.invokestatic 294, 3) := dk_184 1 38 (dk_at dksJ1_fixAfterInsertion_5 9 rfl rfl)
theorem dJ1_fixAfterInsertion_130 : decode cJ1_fixAfterInsertion 130 = .ok (.invokestatic 294, 3) := dk_184 1 38 (dk_at dksJ1_fixAfterInsertion_5 12 rfl rfl)
theorem dJ1_fixAfterInsertion_133 : decode cJ1_fixAfterInsertion 133 = .ok (.iconst 0, 1) := dk_3 (dk_at dksJ1_fixAfterInsertion_5 15 rfl rfl)
theorem dJ1_fixAfterInsertion_134 : decode cJ1_fixAfterInsertion 134 = .ok (.invokestatic 307, 3) := dk_184 1 51 (dk_at dksJ1_fixAfterInsertion_5 16 rfl rfl)
theorem dJ1_fixAfterInsertion_137 : decode cJ1_fixAfterInsertion 137 = .ok (.aload_n 0, 1) := dk_42 (dk_at dksJ1_fixAfterInsertion_5 19 rfl rfl)
theorem dJ1_fixAfterInsertion_138 : decode cJ1_fixAfterInsertion 138 = .ok (.aload_n 1, 1) := dk_43 (dk_at dksJ1_fixAfterInsertion_5 20 rfl rfl)
theorem dJ1_fixAfterInsertion_139 : decode cJ1_fixAfterInsertion 139 = .ok (.invokestatic 294, 3) := dk_184 1 38 (dk_at dksJ1_fixAfterInsertion_5 21 rfl rfl)
theorem dJ1_fixAfterInsertion_142 : decode cJ1_fixAfterInsertion 142 = .ok (.invokestatic 294, 3) := dk_184 1 38 (dk_at dksJ1_fixAfterInsertion_6 0 rfl rfl)
theorem dJ1_fixAfterInsertion_145 : decode cJ1_fixAfterInsertion 145 = .ok (.invokevirtual 314, 3) := dk_182 1 58 (dk_at dksJ1_fixAfterInsertion_6 3 rfl rfl)
theorem dJ1_fixAfterInsertion_148 : decode cJ1_fixAfterInsertion 148 = .ok (.goto (-143), 3) := dk_167 255 113 (dk_at dksJ1_fixAfterInsertion_6 6 rfl rfl)
theorem dJ1_fixAfterInsertion_151 : decode cJ1_fixAfterInsertion 151 = .ok (.aload_n 1, 1) := dk_43 (dk_at dksJ1_fixAfterInsertion_6 9 rfl rfl)
theorem dJ1_fixAfterInsertion_152 : decode cJ1_fixAfterInsertion 152 = .ok (.invokestatic 294, 3) := dk_184 1 38 (dk_at dksJ1_fixAfterInsertion_6 10 rfl rfl)
theorem dJ1_fixAfterInsertion_155 : decode cJ1_fixAfterInsertion 155 = .ok (.invokestatic 294, 3) := dk_184 1 38 (dk_at dksJ1_fixAfterInsertion_6 13 rfl rfl)
theorem dJ1_fixAfterInsertion_158 : decode cJ1_fixAfterInsertion 158 = .ok (.invokestatic 297, 3) := dk_184 1 41 (dk_at dksJ1_fixAfterInsertion_6 16 rfl rfl)
theorem dJ1_fixAfterInsertion_161 : decode cJ1_fixAfterInsertion 161 = .ok (.astore_n 2, 1) := dk_77 (dk_at dksJ1_fixAfterInsertion_6 19 rfl rfl)
theorem dJ1_fixAfterInsertion_162 : decode cJ1_fixAfterInsertion 162 = .ok (.aload_n 2, 1) := dk_44 (dk_at dksJ1_fixAfterInsertion_6 20 rfl rfl)
theorem dJ1_fixAfterInsertion_163 : decode cJ1_fixAfterInsertion 163 = .ok (.invokestatic 303, 3) := dk_184 1 47 (dk_at dksJ1_fixAfterInsertion_6 21 rfl rfl)
theorem dJ1_fixAfterInsertion_166 : decode cJ1_fixAfterInsertion 166 = .ok (.ifCond .ne 38, 3) := dk_154 0 38 (dk_at dksJ1_fixAfterInsertion_7 0 rfl rfl)
theorem dJ1_fixAfterInsertion_169 : decode cJ1_fixAfterInsertion 169 = .ok (.aload_n 1, 1) := dk_43 (dk_at dksJ1_fixAfterInsertion_7 3 rfl rfl)
theorem dJ1_fixAfterInsertion_170 : decode cJ1_fixAfterInsertion 170 = .ok (.invokestatic 294, 3) := dk_184 1 38 (dk_at dksJ1_fixAfterInsertion_7 4 rfl rfl)
theorem dJ1_fixAfterInsertion_173 : decode cJ1_fixAfterInsertion 173 = .ok (.iconst 1, 1) := dk_4 (dk_at dksJ1_fixAfterInsertion_7 7 rfl rfl)
theorem dJ1_fixAfterInsertion_174 : decode cJ1_fixAfterInsertion 174 = .ok (.invokestatic 307, 3) := dk_184 1 51 (dk_at dksJ1_fixAfterInsertion_7 8 rfl rfl)
theorem dJ1_fixAfterInsertion_177 : decode cJ1_fixAfterInsertion 177 = .ok (.aload_n 2, 1) := dk_44 (dk_at dksJ1_fixAfterInsertion_7 11 rfl rfl)
theorem dJ1_fixAfterInsertion_178 : decode cJ1_fixAfterInsertion 178 = .ok (.iconst 1, 1) := dk_4 (dk_at dksJ1_fixAfterInsertion_7 12 rfl rfl)
theorem dJ1_fixAfterInsertion_179 : decode cJ1_fixAfterInsertion 179 = .ok (.invokestatic 307, 3) := dk_184 1 51 (dk_at dksJ1_fixAfterInsertion_7 13 rfl rfl)
theorem dJ1_fixAfterInsertion_182 : decode cJ1_fixAfterInsertion 182 = .ok (.aload_n 1, 1) := dk_43 (dk_at dksJ1_fixAfterInsertion_7 16 rfl rfl)
theorem dJ1_fixAfterInsertion_183 : decode cJ1_fixAfterInsertion 183 = .ok (.invokestatic 294, 3) := dk_184 1 38 (dk_at dksJ1_fixAfterInsertion_7 17 rfl rfl)
theorem dJ1_fixAfterInsertion_186 : decode cJ1_fixAfterInsertion 186 = .ok (.invokestatic 294, 3) := dk_184 1 38 (dk_at dksJ1_fixAfterInsertion_7 20 rfl rfl)
theorem dJ1_fixAfterInsertion_189 : decode cJ1_fixAfterInsertion 189 = .ok (.iconst 0, 1) := dk_3 (dk_at dksJ1_fixAfterInsertion_7 23 rfl rfl)
theorem dJ1_fixAfterInsertion_190 : decode cJ1_fixAfterInsertion 190 = .ok (.invokestatic 307, 3) := dk_184 1 51 (dk_at dksJ1_fixAfterInsertion_8 0 rfl rfl)
theorem dJ1_fixAfterInsertion_193 : decode cJ1_fixAfterInsertion 193 = .ok (.aload_n 1, 1) := dk_43 (dk_at dksJ1_fixAfterInsertion_8 3 rfl rfl)
theorem dJ1_fixAfterInsertion_194 : decode cJ1_fixAfterInsertion 194 = .ok (.invokestatic 294, 3) := dk_184 1 38 (dk_at dksJ1_fixAfterInsertion_8 4 rfl rfl)
theorem dJ1_fixAfterInsertion_197 : decode cJ1_fixAfterInsertion 197 = .ok (.invokestatic 294, 3) := dk_184 1 38 (dk_at dksJ1_fixAfterInsertion_8 7 rfl rfl)
theorem dJ1_fixAfterInsertion_200 : decode cJ1_fixAfterInsertion 200 = .ok (.astore_n 1, 1) := dk_76 (dk_at dksJ1_fixAfterInsertion_8 10 rfl rfl)
theorem dJ1_fixAfterInsertion_201 : decode cJ1_fixAfterInsertion 201 = .ok (.goto 54, 3) := dk_167 0 54 (dk_at dksJ1_fixAfterInsertion_8 11 rfl rfl)
theorem dJ1_fixAfterInsertion_204 : decode cJ1_fixAfterInsertion 204 = .ok (.aload_n 1, 1) := dk_43 (dk_at dksJ1_fixAfterInsertion_8 14 rfl rfl)
theorem dJ1_fixAfterInsertion_205 : decode cJ1_fixAfterInsertion 205 = .ok (.aload_n 1, 1) := dk_43 (dk_at dksJ1_fixAfterInsertion_8 15 rfl rfl)
theorem dJ1_fixAfterInsertion_206 : decode cJ1_fixAfterInsertion 206 = .ok (.invokestatic 294, 3) := dk_184 1 38 (dk_at dksJ1_fixAfterInsertion_8 16 rfl rfl)
theorem dJ1_fixAfterInsertion_209 : decode cJ1_fixAfterInsertion 209 = .ok (.invokestatic 297, 3) := dk_184 1 41 (dk_at dksJ1_fixAfterInsertion_8 19 rfl rfl)
theorem dJ1_fixAfterInsertion_212 : decode cJ1_fixAfterInsertion 212 = .ok (.if_acmp .ne 13, 3) := dk_166 0 13 (dk_at dksJ1_fixAfterInsertion_9 0 rfl rfl)
theorem dJ1_fixAfterInsertion_215 : decode cJ1_fixAfterInsertion 215 = .ok (.aload_n 1, 1) := dk_43 (dk_at dksJ1_fixAfterInsertion_9 3 rfl rfl)
theorem dJ1_fixAfterInsertion_216 : decode cJ1_fixAfterInsertion 216 = .ok (.invokestatic 294, 3) := dk_184 1 38 (dk_at dksJ1_fixAfterInsertion_9 4 rfl rfl)
theorem dJ1_fixAfterInsertion_219 : decode cJ1_fixAfterInsertion 219 = .ok (.astore_n 1, 1) := dk_76 (dk_at dksJ1_fixAfterInsertion_9 7 rfl rfl)
theorem dJ1_fixAfterInsertion_220 : decode cJ1_fixAfterInsertion 220 = .ok (.aload_n 0, 1) := dk_42 (dk_at dksJ1_fixAfterInsertion_9 8 rfl rfl)
theorem dJ1_fixAfterInsertion_221 : decode cJ1_fixAfterInsertion 221 = .ok (.aload_n 1, 1) := dk_43 (dk_at dksJ1_fixAfterInsertion_9 9 rfl rfl)
theorem dJ1_fixAfterInsertion_222 : decode cJ1_fixAfterInsertion 222 = .ok (.invokevirtual 314, 3) := dk_182 1 58 (dk_at dksJ1_fixAfterInsertion_9 10 rfl rfl)
theorem dJ1_fixAfterInsertion_225 : decode cJ1_fixAfterInsertion 225 = .ok (.aload_n 1, 1) := dk_43 (dk_at dksJ1_fixAfterInsertion_9 13 rfl rfl)
theorem dJ1_fixAfterInsertion_226 : decode cJ1_fixAfterInsertion 226 = .ok (.invokestatic 294, 3) := dk_184 1 38 (dk_at dksJ1_fixAfterInsertion_9 14 rfl rfl)
theorem dJ1_fixAfterInsertion_229 : decode cJ1_fixAfterInsertion 229 = .ok (.iconst 1, 1) := dk_4 (dk_at dksJ1_fixAfterInsertion_9 17 rfl rfl)
theorem dJ1_fixAfterInsertion_230 : decode cJ1_fixAfterInsertion 230 = .ok (.invokestatic 307, 3) := dk_184 1 51 (dk_at dksJ1_fixAfterInsertion_9 18 rfl rfl)
theorem dJ1_fixAfterInsertion_233 : decode cJ1_fixAfterInsertion 233 = .ok (.aload_n 1, 1) := dk_43 (dk_at dksJ1_fixAfterInsertion_9 21 rfl rfl)
theorem dJ1_fixAfterInsertion_234 : decode cJ1_fixAfterInsertion 234 = .ok (.invokestatic 294, 3) := dk_184 1 38 (dk_at dksJ1_fixAfterInsertion_10 0 rfl rfl)
theorem dJ1_fixAfterInsertion_237 : decode cJ1_fixAfterInsertion 237 = .ok (.invokestatic 294, 3) := dk_184 1 38 (dk_at dksJ1_fixAfterInsertion_10 3 rfl rfl)
theorem dJ1_fixAfterInsertion_240 : decode cJ1_fixAfterInsertion 240 = .ok (.iconst 0, 1) := dk_3 (dk_at dksJ1_fixAfterInsertion_10 6 rfl rfl)
theorem dJ1_fixAfterInsertion_241 : decode cJ1_fixAfterInsertion 241 = .ok (.invokestatic 307, 3) := dk_184 1 51 (dk_at dksJ1_fixAfterInsertion_10 7 rfl rfl)
theorem dJ1_fixAfterInsertion_244 : decode cJ1_fixAfterInsertion 244 = .ok (.aload_n 0, 1) := dk_42 (dk_at dksJ1_fixAfterInsertion_10 10 rfl rfl)
theorem dJ1_fixAfterInsertion_245 : decode cJ1_fixAfterInsertion 245 = .ok (.aload_n 1, 1) := dk_43 (dk_at dksJ1_fixAfterInsertion_10 11 rfl rfl)
theorem dJ1_fixAfterInsertion_246 : decode cJ1_fixAfterInsertion 246 = .ok (.invokestatic 294, 3) := dk_184 1 38 (dk_at dksJ1_fixAfterInsertion_10 12 rfl rfl)
theorem dJ1_fixAfterInsertion_249 : decode cJ1_fixAfterInsertion 249 = .ok (.invokestatic 294, 3) := dk_184 1 38 (dk_at dksJ1_fixAfterInsertion_10 15 rfl rfl)
theorem dJ1_fixAfterInsertion_252 : decode cJ1_fixAfterInsertion 252 = .ok (.invokevirtual 311, 3) := dk_182 1 55 (dk_at dksJ1_fixAfterInsertion_10 18 rfl rfl)
theorem dJ1_fixAfterInsertion_255 : decode cJ1_fixAfterInsertion 255 = .ok (.goto (-250), 3) := dk_167 255 6 (dk_at dksJ1_fixAfterInsertion_10 21 rfl rfl)
theorem dJ1_fixAfterInsertion_258 : decode cJ1_fixAfterInsertion 258 = .ok (.aload_n 0, 1) := dk_42 (dk_at dksJ1_fixAfterInsertion_11 0 rfl rfl)
theorem dJ1_fixAfterInsertion_259 : decode cJ1_fixAfterInsertion 259 = .ok (.getfield 101, 3) := dk_180 0 101 (dk_at dksJ1_fixAfterInsertion_11 1 rfl rfl)
theorem dJ1_fixAfterInsertion_262 : decode cJ1_fixAfterInsertion 262 = .ok (.iconst 1, 1) := dk_4 (dk_at dksJ1_fixAfterInsertion_11 4 rfl rfl)
theorem dJ1_fixAfterInsertion_263 : decode cJ1_fixAfterInsertion 263 = .ok (.putfield 290, 3) := dk_181 1 34 (dk_at dksJ1_fixAfterInsertion_11 5 rfl rfl)
theorem dJ1_fixAfterInsertion_266 : decode cJ1_fixAfterInsertion 266 = .ok (.return_, 1) := dk_177 (dk_at dksJ1_fixAfterInsertion_11 8 rfl rfl)
set_option maxHeartbeats 4000000 in
theorem m_fixIns (l : Launch) (hl : l.stackTraces = false) (g : GE) (A : Nat → Prop) (E : List Nat) (tm : Nat) (ka va : Nat → Nat) (lf rt pa : Nat → Option Nat) (co : Nat → Bool) (vl root : Option Nat) (n : Nat) (md : Int32) (h0 : AHT) (ix lo hi : Nat → Nat) (hI : Inv E ix lo hi lf rt pa root) (ht : tm ∉ E) (hb : ∀ r, root = some r → co r = true) (x : Nat) (hx : x ∈ E) : U_ l g A yJ1_fixAfterInsertion 2 0 0 [.ref tm, .ref x] (tmO E tm ka va lf rt pa co vl root n md h0) (fun v h' => v = none ∧ ∃ (lo' hi' : Nat → Nat) (lf' rt' pa' : Nat → Option Nat) (co' : Nat → Bool) (root' : Option Nat), Inv E ix lo' hi' lf' rt' pa' root' ∧ (∀ r, root' = some r → co' r = true) ∧ (tmO E tm ka va lf' rt' pa' co' vl root' n md h0) = h') noX := by
  refine U_.of (own := RJ1) (cc := cJ1_fixAfterInsertion) (L := 3) (ret := (none)) hl rfl (plainFor_of_name (by decide)) ⟨by decide, by decide⟩ q1053 q85 (by decide) (fun e => absurd e (by decide)) (Nat.le_of_ble_eq_true rfl) (fun κ cx => ?_)
  show V g A κ _ _ 0 0 (tmO E tm ka va lf rt pa co vl root n md h0) 0 [(0, .ref tm), (1, .ref x)] []
  refine V.aload_n cx dJ1_fixAfterInsertion_0 rfl 1 rfl ?_
  refine V.iconst (v := (nI 0)) cx dJ1_fixAfterInsertion_1 (by decide) ?_
  refine V.toi (y := b2 false) (by decide) ?_
  refine V.put (ty := tyJ25 5) cx kJ25 (tm_e hx) 5 (by decide) rfl (tyJ25_ok 5 (by decide)) b2_narrow b2_fits (Nat.le_of_ble_eq_true rfl) q1032 rfl dJ1_fixAfterInsertion_2 ?_
  refine V.hto (tm_co (b := false) hx) ?_
  show V g A κ _ _ 0 0 (tmO E tm ka va lf rt pa (va_up co x false) vl root n md h0) 5 [(0, .ref tm), (1, .ref x)] []
  refine V.loop (α := (Nat) × (Nat → Nat) × (Nat → Nat) × (Nat → Option Nat) × (Nat → Option Nat) × (Nat → Option Nat) × (Nat → Bool) × (Option Nat)) (fun z9_ => E.length - ((z9_.2.2.1) (z9_.1) - (z9_.2.1) (z9_.1))) (fun z9_ => Inv E ix (z9_.2.1) (z9_.2.2.1) (z9_.2.2.2.1) (z9_.2.2.2.2.1) (z9_.2.2.2.2.2.1) (z9_.2.2.2.2.2.2.2) ∧ (z9_.1) ∈ E ∧ ∀ r, (z9_.2.2.2.2.2.2.2) = some r → ((z9_.2.2.2.2.2.2.1) r = true ∨ (z9_.1) = r)) (fun z9_ => 0) (fun z9_ => 0) (fun z9_ => (tmO E tm ka va (z9_.2.2.2.1) (z9_.2.2.2.2.1) (z9_.2.2.2.2.2.1) (z9_.2.2.2.2.2.2.1) vl (z9_.2.2.2.2.2.2.2) n md h0)) (fun z9_ => [(0, .ref tm), (1, .ref (z9_.1))]) (fun z9_ => []) (fun z9_ hP_ ih_ => ?_) (x, lo, hi, lf, rt, pa, (va_up co x false), root) ⟨hI, hx, fun r hr => by have := hb r hr; unfold va_up; grind⟩
  obtain ⟨x_, lo_, hi_, lf_, rt_, pa_, co_, root_⟩ := z9_
  dsimp only at hP_
  obtain ⟨hI_, hx_, hb_⟩ := hP_
  show V g A κ _ _ 0 0 (tmO E tm ka va lf_ rt_ pa_ co_ vl root_ n md h0) 5 [(0, .ref tm), (1, .ref x_)] []
  clear hI hb
  refine V.aload_n cx dJ1_fixAfterInsertion_5 rfl 1 rfl ?_
  refine V.ifnull cx dJ1_fixAfterInsertion_6 ?_
  refine V.aload_n cx dJ1_fixAfterInsertion_9 rfl 1 rfl ?_
  refine V.aload_n cx dJ1_fixAfterInsertion_10 rfl 0 rfl ?_
  refine V.get cx kJ1 (tm_t ht) 3 (by decide) q158 rfl rfl dJ1_fixAfterInsertion_11 ?_
  show V g A κ _ _ 0 0 (tmO E tm ka va lf_ rt_ pa_ co_ vl root_ n md h0) 14 [(0, .ref tm), (1, .ref x_)] [va_rf root_, .ref x_]
  refine V.acmp_eq (rx := (some x_)) (ry := root_) (tgt := 258) cx dJ1_fixAfterInsertion_14 (by decide) (fun cr => ?_) (fun cr => ?_)
  · rcases opt_c root_ with hrr | ⟨rr, hrr⟩
    · exact absurd (Inv.root_some hI_ hx_) (fun e => absurd (hrr.symm.trans e.choose_spec) (by intro e; cases e))
    · refine V.hto (h' := (tmO E tm ka va lf_ rt_ pa_ co_ vl (some rr) n md h0)) (by rw [hrr]) ?_
      show V g A κ _ _ 0 0 (tmO E tm ka va lf_ rt_ pa_ co_ vl (some rr) n md h0) 258 [(0, .ref tm), (1, .ref x_)] []
      refine V.aload_n cx dJ1_fixAfterInsertion_258 rfl 0 rfl ?_
      refine V.get cx kJ1 (tm_t ht) 3 (by decide) q158 rfl rfl dJ1_fixAfterInsertion_259 ?_
      show V g A κ _ _ 0 0 (tmO E tm ka va lf_ rt_ pa_ co_ vl (some rr) n md h0) 262 [(0, .ref tm), (1, .ref x_)] [.ref rr]
      refine V.iconst (v := (nI 1)) cx dJ1_fixAfterInsertion_262 (by decide) ?_
      refine V.toi (y := b2 true) (by decide) ?_
      refine V.put (ty := tyJ25 5) cx kJ25 (tm_e (hI_.2.2.2.2.2.2 rr hrr).1) 5 (by decide) rfl (tyJ25_ok 5 (by decide)) b2_narrow b2_fits (Nat.le_of_ble_eq_true rfl) q1032 rfl dJ1_fixAfterInsertion_263 ?_
      refine V.hto (tm_co (b := true) (hI_.2.2.2.2.2.2 rr hrr).1) ?_
      show V g A κ _ _ 0 0 (tmO E tm ka va lf_ rt_ pa_ (va_up co_ rr true) vl (some rr) n md h0) 266 [(0, .ref tm), (1, .ref x_)] []
      exact V.vreturn cx rfl ⟨rfl, _, _, _, _, _, _, _, hrr ▸ hI_, fun r hr => by cases hr; exact va_up_self _ _ _, rfl⟩ (by decide) (by decide) dJ1_fixAfterInsertion_266
  · have hppx : ∃ p, pa_ x_ = some p := by rcases opt_c (pa_ x_) with hz | z; exact absurd ((hI_.2.2.2.2.1 x_ hx_).1 hz).symm cr; exact z
    obtain ⟨p, hp⟩ := hppx
    have hpE : p ∈ E := ((hI_.2.2.2.2.1 x_ hx_).2 p hp).1
    refine V.aload_n cx dJ1_fixAfterInsertion_17 rfl 1 rfl ?_
    refine V.get cx kJ25 (tm_e hx_) 4 (by decide) q1030 rfl rfl dJ1_fixAfterInsertion_18 ?_
    refine V.toq (o' := (some p)) (by rw [hp]) ?_
    show V g A κ _ _ 0 0 (tmO E tm ka va lf_ rt_ pa_ co_ vl root_ n md h0) 21 [(0, .ref tm), (1, .ref x_)] [.ref p]
    refine V.get cx kJ25 (tm_e hpE) 5 (by decide) q1032 rfl rfl dJ1_fixAfterInsertion_21 ?_
    show V g A κ _ _ 0 0 (tmO E tm ka va lf_ rt_ pa_ co_ vl root_ n md h0) 24 [(0, .ref tm), (1, .ref x_)] [.int (b2 (co_ p))]
    refine V.bif_ne (tgt := 258) cx dJ1_fixAfterInsertion_24 (by decide) (fun cc => ?_) (fun cc => ?_)
    · rcases opt_c root_ with hrr | ⟨rr, hrr⟩
      · exact absurd (Inv.root_some hI_ hx_) (fun e => absurd (hrr.symm.trans e.choose_spec) (by intro e; cases e))
      · refine V.hto (h' := (tmO E tm ka va lf_ rt_ pa_ co_ vl (some rr) n md h0)) (by rw [hrr]) ?_
        show V g A κ _ _ 0 0 (tmO E tm ka va lf_ rt_ pa_ co_ vl (some rr) n md h0) 258 [(0, .ref tm), (1, .ref x_)] []
        refine V.aload_n cx dJ1_fixAfterInsertion_258 rfl 0 rfl ?_
        refine V.get cx kJ1 (tm_t ht) 3 (by decide) q158 rfl rfl dJ1_fixAfterInsertion_259 ?_
        show V g A κ _ _ 0 0 (tmO E tm ka va lf_ rt_ pa_ co_ vl (some rr) n md h0) 262 [(0, .ref tm), (1, .ref x_)] [.ref rr]
        refine V.iconst (v := (nI 1)) cx dJ1_fixAfterInsertion_262 (by decide) ?_
        refine V.toi (y := b2 true) (by decide) ?_
        refine V.put (ty := tyJ25 5) cx kJ25 (tm_e (hI_.2.2.2.2.2.2 rr hrr).1) 5 (by decide) rfl (tyJ25_ok 5 (by decide)) b2_narrow b2_fits (Nat.le_of_ble_eq_true rfl) q1032 rfl dJ1_fixAfterInsertion_263 ?_
        refine V.hto (tm_co (b := true) (hI_.2.2.2.2.2.2 rr hrr).1) ?_
        show V g A κ _ _ 0 0 (tmO E tm ka va lf_ rt_ pa_ (va_up co_ rr true) vl (some rr) n md h0) 266 [(0, .ref tm), (1, .ref x_)] []
        exact V.vreturn cx rfl ⟨rfl, _, _, _, _, _, _, _, hrr ▸ hI_, fun r hr => by cases hr; exact va_up_self _ _ _, rfl⟩ (by decide) (by decide) dJ1_fixAfterInsertion_266
    · have hgg : ∃ q, pa_ p = some q := by rcases opt_c (pa_ p) with hz | z; exact absurd (hb_ p ((hI_.2.2.2.2.1 p hpE).1 hz)) (fun e => by rcases e with e | e; exact absurd (cc.symm.trans e) (by decide); exact cr (by rw [e]; exact ((hI_.2.2.2.2.1 p hpE).1 hz).symm)); exact z
      obtain ⟨gp, hgp⟩ := hgg
      have hgE : gp ∈ E := ((hI_.2.2.2.2.1 p hpE).2 gp hgp).1
      obtain ⟨i0, i1, i2, i3, i4, i5⟩ := id hI_
      have hinj := fun a b => @Inv.inj E ix lo_ hi_ lf_ rt_ pa_ root_ hI_ a b
      have nxp : x_ ≠ p := by grind
      have npg : p ≠ gp := by grind
      have nxg : x_ ≠ gp := by grind
      have hlp : lf_ p = some x_ ∨ rt_ p = some x_ := by grind
      have hlg : lf_ gp = some p ∨ rt_ gp = some p := by grind
      show V g A κ _ _ 0 0 (tmO E tm ka va lf_ rt_ pa_ co_ vl root_ n md h0) 27 [(0, .ref tm), (1, .ref x_)] []
      refine V.aload_n cx dJ1_fixAfterInsertion_27 rfl 1 rfl ?_
      refine V.callS (As := [.ref x_]) (rest := []) cx (m_parentOfS l hl g A E tm ka va lf_ rt_ pa_ co_ vl root_ n md h0 x_ hx_) q1054 q1055 (na := 1) rfl (by decide +kernel) (Nat.le_of_ble_eq_true rfl) (by decide) (by decide) (by decide) rfl dJ1_fixAfterInsertion_28 (fun _ _ _ hx => hx.elim) (fun v1 h2 hp => ?_)
      obtain ⟨rfl, rfl⟩ := hp
      show V g A κ _ _ 0 0 (tmO E tm ka va lf_ rt_ pa_ co_ vl root_ n md h0) 31 [(0, .ref tm), (1, .ref x_)] [va_rf (pa_ x_)]
      refine V.toq (o' := (some p)) (by rw [hp]) ?_
      show V g A κ _ _ 0 0 (tmO E tm ka va lf_ rt_ pa_ co_ vl root_ n md h0) 31 [(0, .ref tm), (1, .ref x_)] [.ref p]
      refine V.aload_n cx dJ1_fixAfterInsertion_31 rfl 1 rfl ?_
      refine V.callS (As := [.ref x_]) (rest := [.ref p]) cx (m_parentOfS l hl g A E tm ka va lf_ rt_ pa_ co_ vl root_ n md h0 x_ hx_) q1054 q1055 (na := 1) rfl (by decide +kernel) (Nat.le_of_ble_eq_true rfl) (by decide) (by decide) (by decide) rfl dJ1_fixAfterInsertion_32 (fun _ _ _ hx => hx.elim) (fun v3 h4 hp => ?_)
      obtain ⟨rfl, rfl⟩ := hp
      show V g A κ _ _ 0 0 (tmO E tm ka va lf_ rt_ pa_ co_ vl root_ n md h0) 35 [(0, .ref tm), (1, .ref x_)] [va_rf (pa_ x_), .ref p]
      refine V.toq (o' := (some p)) (by rw [hp]) ?_
      show V g A κ _ _ 0 0 (tmO E tm ka va lf_ rt_ pa_ co_ vl root_ n md h0) 35 [(0, .ref tm), (1, .ref x_)] [.ref p, .ref p]
      refine V.callS (As := [.ref p]) (rest := [.ref p]) cx (m_parentOfS l hl g A E tm ka va lf_ rt_ pa_ co_ vl root_ n md h0 p hpE) q1054 q1055 (na := 1) rfl (by decide +kernel) (Nat.le_of_ble_eq_true rfl) (by decide) (by decide) (by decide) rfl dJ1_fixAfterInsertion_35 (fun _ _ _ hx => hx.elim) (fun v5 h6 hp => ?_)
      obtain ⟨rfl, rfl⟩ := hp
      show V g A κ _ _ 0 0 (tmO E tm ka va lf_ rt_ pa_ co_ vl root_ n md h0) 38 [(0, .ref tm), (1, .ref x_)] [va_rf (pa_ p), .ref p]
      refine V.toq (o' := (some gp)) (by rw [hgp]) ?_
      show V g A κ _ _ 0 0 (tmO E tm ka va lf_ rt_ pa_ co_ vl root_ n md h0) 38 [(0, .ref tm), (1, .ref x_)] [.ref gp, .ref p]
      refine V.callS (As := [.ref gp]) (rest := [.ref p]) cx (m_leftOfS l hl g A E tm ka va lf_ rt_ pa_ co_ vl root_ n md h0 gp hgE) q1057 q1058 (na := 1) rfl (by decide +kernel) (Nat.le_of_ble_eq_true rfl) (by decide) (by decide) (by decide) rfl dJ1_fixAfterInsertion_38 (fun _ _ _ hx => hx.elim) (fun v7 h8 hp => ?_)
      obtain ⟨rfl, rfl⟩ := hp
      show V g A κ _ _ 0 0 (tmO E tm ka va lf_ rt_ pa_ co_ vl root_ n md h0) 41 [(0, .ref tm), (1, .ref x_)] [va_rf (lf_ gp), .ref p]
      show V g A κ _ _ 0 0 (tmO E tm ka va lf_ rt_ pa_ co_ vl root_ n md h0) 41 [(0, .ref tm), (1, .ref x_)] [va_rf (lf_ gp), .ref p]
      refine V.acmp_ne (rx := (some p)) (ry := (lf_ gp)) (tgt := 151) cx dJ1_fixAfterInsertion_41 (by decide) (fun cs => ?_) (fun cs => ?_)
      · have hgs : rt_ gp = some p := by grind
        refine V.aload_n cx dJ1_fixAfterInsertion_151 rfl 1 rfl ?_
        refine V.callS (As := [.ref x_]) (rest := []) cx (m_parentOfS l hl g A E tm ka va lf_ rt_ pa_ co_ vl root_ n md h0 x_ hx_) q1054 q1055 (na := 1) rfl (by decide +kernel) (Nat.le_of_ble_eq_true rfl) (by decide) (by decide) (by decide) rfl dJ1_fixAfterInsertion_152 (fun _ _ _ hx => hx.elim) (fun v77 h78 hp => ?_)
        obtain ⟨rfl, rfl⟩ := hp
        show V g A κ _ _ 0 0 (tmO E tm ka va lf_ rt_ pa_ co_ vl root_ n md h0) 155 [(0, .ref tm), (1, .ref x_)] [va_rf (pa_ x_)]
        refine V.toq (o' := (some p)) (by rw [hp]) ?_
        show V g A κ _ _ 0 0 (tmO E tm ka va lf_ rt_ pa_ co_ vl root_ n md h0) 155 [(0, .ref tm), (1, .ref x_)] [.ref p]
        refine V.callS (As := [.ref p]) (rest := []) cx (m_parentOfS l hl g A E tm ka va lf_ rt_ pa_ co_ vl root_ n md h0 p hpE) q1054 q1055 (na := 1) rfl (by decide +kernel) (Nat.le_of_ble_eq_true rfl) (by decide) (by decide) (by decide) rfl dJ1_fixAfterInsertion_155 (fun _ _ _ hx => hx.elim) (fun v79 h80 hp => ?_)
        obtain ⟨rfl, rfl⟩ := hp
        show V g A κ _ _ 0 0 (tmO E tm ka va lf_ rt_ pa_ co_ vl root_ n md h0) 158 [(0, .ref tm), (1, .ref x_)] [va_rf (pa_ p)]
        refine V.toq (o' := (some gp)) (by rw [hgp]) ?_
        show V g A κ _ _ 0 0 (tmO E tm ka va lf_ rt_ pa_ co_ vl root_ n md h0) 158 [(0, .ref tm), (1, .ref x_)] [.ref gp]
        rcases unc (lf_ gp) co_ with ⟨u, hu, hcu⟩ | hcu
        · have huE : u ∈ E := ((hI_.2.2.1 gp hgE).2 u hu).1
          refine V.callS (As := [.ref gp]) (rest := []) cx (m_leftOfS l hl g A E tm ka va lf_ rt_ pa_ co_ vl root_ n md h0 gp hgE) q1057 q1058 (na := 1) rfl (by decide +kernel) (Nat.le_of_ble_eq_true rfl) (by decide) (by decide) (by decide) rfl dJ1_fixAfterInsertion_158 (fun _ _ _ hx => hx.elim) (fun v81 h82 hp => ?_)
          obtain ⟨rfl, rfl⟩ := hp
          show V g A κ _ _ 0 0 (tmO E tm ka va lf_ rt_ pa_ co_ vl root_ n md h0) 161 [(0, .ref tm), (1, .ref x_)] [va_rf (lf_ gp)]
          refine V.toq (o' := (some u)) (by rw [hu]) ?_
          show V g A κ _ _ 0 0 (tmO E tm ka va lf_ rt_ pa_ co_ vl root_ n md h0) 161 [(0, .ref tm), (1, .ref x_)] [.ref u]
          refine V.astore_n (lv' := [(2, .ref u), (0, .ref tm), (1, .ref x_)]) cx dJ1_fixAfterInsertion_161 rfl (by decide) rfl ?_
          refine V.aload_n cx dJ1_fixAfterInsertion_162 rfl 0 rfl ?_
          refine V.callS (As := [.ref u]) (rest := []) cx (m_colorOfS l hl g A E tm ka va lf_ rt_ pa_ co_ vl root_ n md h0 u huE) q1063 q1064 (na := 1) rfl (by decide +kernel) (Nat.le_of_ble_eq_true rfl) (by decide) (by decide) (by decide) rfl dJ1_fixAfterInsertion_163 (fun _ _ _ hx => hx.elim) (fun v83 h84 hp => ?_)
          obtain ⟨rfl, rfl⟩ := hp
          show V g A κ _ _ 0 0 (tmO E tm ka va lf_ rt_ pa_ co_ vl root_ n md h0) 166 [(2, .ref u), (0, .ref tm), (1, .ref x_)] [.int (b2 (co_ u))]
          refine V.tob (b := false) (by rw [hcu]) ?_
          show V g A κ _ _ 0 0 (tmO E tm ka va lf_ rt_ pa_ co_ vl root_ n md h0) 166 [(2, .ref u), (0, .ref tm), (1, .ref x_)] [.int (b2 false)]
          refine V.bif_ne (tgt := 204) cx dJ1_fixAfterInsertion_166 (by decide) (fun cb => ?_) (fun cb => ?_)
          · exact absurd cb (by decide)
          · refine V.aload_n cx dJ1_fixAfterInsertion_169 rfl 2 rfl ?_
            refine V.callS (As := [.ref x_]) (rest := []) cx (m_parentOfS l hl g A E tm ka va lf_ rt_ pa_ co_ vl root_ n md h0 x_ hx_) q1054 q1055 (na := 1) rfl (by decide +kernel) (Nat.le_of_ble_eq_true rfl) (by decide) (by decide) (by decide) rfl dJ1_fixAfterInsertion_170 (fun _ _ _ hx => hx.elim) (fun v85 h86 hp => ?_)
            obtain ⟨rfl, rfl⟩ := hp
            show V g A κ _ _ 0 0 (tmO E tm ka va lf_ rt_ pa_ co_ vl root_ n md h0) 173 [(2, .ref u), (0, .ref tm), (1, .ref x_)] [va_rf (pa_ x_)]
            refine V.toq (o' := (some p)) (by rw [hp]) ?_
            show V g A κ _ _ 0 0 (tmO E tm ka va lf_ rt_ pa_ co_ vl root_ n md h0) 173 [(2, .ref u), (0, .ref tm), (1, .ref x_)] [.ref p]
            refine V.iconst (v := (nI 1)) cx dJ1_fixAfterInsertion_173 (by decide) ?_
            refine V.toi (y := b2 true) (by decide) ?_
            refine V.callS (As := [.ref p, .int (b2 true)]) (rest := []) cx (m_setColorS l hl g A E tm ka va lf_ rt_ pa_ co_ vl root_ n md h0 p hpE true) q1066 q1067 (na := 2) rfl (by decide +kernel) (Nat.le_of_ble_eq_true rfl) (by decide) (by decide) (by decide) rfl dJ1_fixAfterInsertion_174 (fun _ _ _ hx => hx.elim) (fun v87 h88 hp => ?_)
            obtain ⟨rfl, rfl⟩ := hp
            show V g A κ _ _ 0 0 (tmO E tm ka va lf_ rt_ pa_ (va_up co_ p true) vl root_ n md h0) 177 [(2, .ref u), (0, .ref tm), (1, .ref x_)] []
            refine V.aload_n cx dJ1_fixAfterInsertion_177 rfl 0 rfl ?_
            refine V.iconst (v := (nI 1)) cx dJ1_fixAfterInsertion_178 (by decide) ?_
            refine V.toi (y := b2 true) (by decide) ?_
            refine V.callS (As := [.ref u, .int (b2 true)]) (rest := []) cx (m_setColorS l hl g A E tm ka va lf_ rt_ pa_ (va_up co_ p true) vl root_ n md h0 u huE true) q1066 q1067 (na := 2) rfl (by decide +kernel) (Nat.le_of_ble_eq_true rfl) (by decide) (by decide) (by decide) rfl dJ1_fixAfterInsertion_179 (fun _ _ _ hx => hx.elim) (fun v89 h90 hp => ?_)
            obtain ⟨rfl, rfl⟩ := hp
            show V g A κ _ _ 0 0 (tmO E tm ka va lf_ rt_ pa_ (va_up (va_up co_ p true) u true) vl root_ n md h0) 182 [(2, .ref u), (0, .ref tm), (1, .ref x_)] []
            refine V.aload_n cx dJ1_fixAfterInsertion_182 rfl 2 rfl ?_
            refine V.callS (As := [.ref x_]) (rest := []) cx (m_parentOfS l hl g A E tm ka va lf_ rt_ pa_ (va_up (va_up co_ p true) u true) vl root_ n md h0 x_ hx_) q1054 q1055 (na := 1) rfl (by decide +kernel) (Nat.le_of_ble_eq_true rfl) (by decide) (by decide) (by decide) rfl dJ1_fixAfterInsertion_183 (fun _ _ _ hx => hx.elim) (fun v91 h92 hp => ?_)
            obtain ⟨rfl, rfl⟩ := hp
            show V g A κ _ _ 0 0 (tmO E tm ka va lf_ rt_ pa_ (va_up (va_up co_ p true) u true) vl root_ n md h0) 186 [(2, .ref u), (0, .ref tm), (1, .ref x_)] [va_rf (pa_ x_)]
            refine V.toq (o' := (some p)) (by rw [hp]) ?_
            show V g A κ _ _ 0 0 (tmO E tm ka va lf_ rt_ pa_ (va_up (va_up co_ p true) u true) vl root_ n md h0) 186 [(2, .ref u), (0, .ref tm), (1, .ref x_)] [.ref p]
            refine V.callS (As := [.ref p]) (rest := []) cx (m_parentOfS l hl g A E tm ka va lf_ rt_ pa_ (va_up (va_up co_ p true) u true) vl root_ n md h0 p hpE) q1054 q1055 (na := 1) rfl (by decide +kernel) (Nat.le_of_ble_eq_true rfl) (by decide) (by decide) (by decide) rfl dJ1_fixAfterInsertion_186 (fun _ _ _ hx => hx.elim) (fun v93 h94 hp => ?_)
            obtain ⟨rfl, rfl⟩ := hp
            show V g A κ _ _ 0 0 (tmO E tm ka va lf_ rt_ pa_ (va_up (va_up co_ p true) u true) vl root_ n md h0) 189 [(2, .ref u), (0, .ref tm), (1, .ref x_)] [va_rf (pa_ p)]
            refine V.toq (o' := (some gp)) (by rw [hgp]) ?_
            show V g A κ _ _ 0 0 (tmO E tm ka va lf_ rt_ pa_ (va_up (va_up co_ p true) u true) vl root_ n md h0) 189 [(2, .ref u), (0, .ref tm), (1, .ref x_)] [.ref gp]
            refine V.iconst (v := (nI 0)) cx dJ1_fixAfterInsertion_189 (by decide) ?_
            refine V.toi (y := b2 false) (by decide) ?_
            refine V.callS (As := [.ref gp, .int (b2 false)]) (rest := []) cx (m_setColorS l hl g A E tm ka va lf_ rt_ pa_ (va_up (va_up co_ p true) u true) vl root_ n md h0 gp hgE false) q1066 q1067 (na := 2) rfl (by decide +kernel) (Nat.le_of_ble_eq_true rfl) (by decide) (by decide) (by decide) rfl dJ1_fixAfterInsertion_190 (fun _ _ _ hx => hx.elim) (fun v95 h96 hp => ?_)
            obtain ⟨rfl, rfl⟩ := hp
            show V g A κ _ _ 0 0 (tmO E tm ka va lf_ rt_ pa_ (va_up (va_up (va_up co_ p true) u true) gp false) vl root_ n md h0) 193 [(2, .ref u), (0, .ref tm), (1, .ref x_)] []
            refine V.aload_n cx dJ1_fixAfterInsertion_193 rfl 2 rfl ?_
            refine V.callS (As := [.ref x_]) (rest := []) cx (m_parentOfS l hl g A E tm ka va lf_ rt_ pa_ (va_up (va_up (va_up co_ p true) u true) gp false) vl root_ n md h0 x_ hx_) q1054 q1055 (na := 1) rfl (by decide +kernel) (Nat.le_of_ble_eq_true rfl) (by decide) (by decide) (by decide) rfl dJ1_fixAfterInsertion_194 (fun _ _ _ hx => hx.elim) (fun v97 h98 hp => ?_)
            obtain ⟨rfl, rfl⟩ := hp
            show V g A κ _ _ 0 0 (tmO E tm ka va lf_ rt_ pa_ (va_up (va_up (va_up co_ p true) u true) gp false) vl root_ n md h0) 197 [(2, .ref u), (0, .ref tm), (1, .ref x_)] [va_rf (pa_ x_)]
            refine V.toq (o' := (some p)) (by rw [hp]) ?_
            show V g A κ _ _ 0 0 (tmO E tm ka va lf_ rt_ pa_ (va_up (va_up (va_up co_ p true) u true) gp false) vl root_ n md h0) 197 [(2, .ref u), (0, .ref tm), (1, .ref x_)] [.ref p]
            refine V.callS (As := [.ref p]) (rest := []) cx (m_parentOfS l hl g A E tm ka va lf_ rt_ pa_ (va_up (va_up (va_up co_ p true) u true) gp false) vl root_ n md h0 p hpE) q1054 q1055 (na := 1) rfl (by decide +kernel) (Nat.le_of_ble_eq_true rfl) (by decide) (by decide) (by decide) rfl dJ1_fixAfterInsertion_197 (fun _ _ _ hx => hx.elim) (fun v99 h100 hp => ?_)
            obtain ⟨rfl, rfl⟩ := hp
            show V g A κ _ _ 0 0 (tmO E tm ka va lf_ rt_ pa_ (va_up (va_up (va_up co_ p true) u true) gp false) vl root_ n md h0) 200 [(2, .ref u), (0, .ref tm), (1, .ref x_)] [va_rf (pa_ p)]
            refine V.toq (o' := (some gp)) (by rw [hgp]) ?_
            show V g A κ _ _ 0 0 (tmO E tm ka va lf_ rt_ pa_ (va_up (va_up (va_up co_ p true) u true) gp false) vl root_ n md h0) 200 [(2, .ref u), (0, .ref tm), (1, .ref x_)] [.ref gp]
            refine V.astore_n (lv' := [(1, .ref gp), (2, .ref u), (0, .ref tm)]) cx dJ1_fixAfterInsertion_200 rfl (by decide) rfl ?_
            refine V.goto (tgt := 255) cx dJ1_fixAfterInsertion_201 (by decide) ?_
            refine V.goto (tgt := 5) cx dJ1_fixAfterInsertion_255 (by decide) ?_
            refine V.sub [2, 0] rfl ?_
            exact ih_ (gp, lo_, hi_, lf_, rt_, pa_, (va_up (va_up (va_up co_ p true) u true) gp false), root_) (by dsimp only; exact (by have h1 := i1 x_ hx_; have h2 := i1 p hpE; have h3 := i1 gp hgE; clear ih_; grind)) (by dsimp only; exact ⟨hI_, hgE, fun r hr => by have := hb_ r hr; unfold va_up; clear ih_; grind⟩)
        · refine V.callS (As := [.ref gp]) (rest := []) cx (m_leftOfS l hl g A E tm ka va lf_ rt_ pa_ co_ vl root_ n md h0 gp hgE) q1057 q1058 (na := 1) rfl (by decide +kernel) (Nat.le_of_ble_eq_true rfl) (by decide) (by decide) (by decide) rfl dJ1_fixAfterInsertion_158 (fun _ _ _ hx => hx.elim) (fun v101 h102 hp => ?_)
          obtain ⟨rfl, rfl⟩ := hp
          show V g A κ _ _ 0 0 (tmO E tm ka va lf_ rt_ pa_ co_ vl root_ n md h0) 161 [(0, .ref tm), (1, .ref x_)] [va_rf (lf_ gp)]
          show V g A κ _ _ 0 0 (tmO E tm ka va lf_ rt_ pa_ co_ vl root_ n md h0) 161 [(0, .ref tm), (1, .ref x_)] [va_rf (lf_ gp)]
          refine V.astore_nq (lv' := [(2, va_rf (lf_ gp)), (0, .ref tm), (1, .ref x_)]) cx dJ1_fixAfterInsertion_161 rfl (by decide) rfl ?_
          refine V.aload_nq cx dJ1_fixAfterInsertion_162 rfl 0 rfl ?_
          refine V.callS (As := [va_rf (lf_ gp)]) (rest := []) cx (m_colorOf l hl g A E tm ka va lf_ rt_ pa_ co_ vl root_ n md h0 (lf_ gp) (fun e he => ((hI_.2.2.1 gp hgE).2 e he).1)) q1063 q1064 (na := 1) rfl (by decide +kernel) (Nat.le_of_ble_eq_true rfl) (by decide) (by decide) (by decide) rfl dJ1_fixAfterInsertion_163 (fun _ _ _ hx => hx.elim) (fun v103 h104 hp => ?_)
          obtain ⟨rfl, rfl⟩ := hp
          show V g A κ _ _ 0 0 (tmO E tm ka va lf_ rt_ pa_ co_ vl root_ n md h0) 166 [(2, va_rf (lf_ gp)), (0, .ref tm), (1, .ref x_)] [.int (b2 (Option.elim (lf_ gp) true co_))]
          refine V.tob (b := true) hcu ?_
          refine V.bif_ne (tgt := 204) cx dJ1_fixAfterInsertion_166 (by decide) (fun cb => ?_) (fun cb => ?_)
          · refine V.aload_n cx dJ1_fixAfterInsertion_204 rfl 2 rfl ?_
            refine V.aload_n cx dJ1_fixAfterInsertion_205 rfl 2 rfl ?_
            refine V.callS (As := [.ref x_]) (rest := [.ref x_]) cx (m_parentOfS l hl g A E tm ka va lf_ rt_ pa_ co_ vl root_ n md h0 x_ hx_) q1054 q1055 (na := 1) rfl (by decide +kernel) (Nat.le_of_ble_eq_true rfl) (by decide) (by decide) (by decide) rfl dJ1_fixAfterInsertion_206 (fun _ _ _ hx => hx.elim) (fun v105 h106 hp => ?_)
            obtain ⟨rfl, rfl⟩ := hp
            show V g A κ _ _ 0 0 (tmO E tm ka va lf_ rt_ pa_ co_ vl root_ n md h0) 209 [(2, va_rf (lf_ gp)), (0, .ref tm), (1, .ref x_)] [va_rf (pa_ x_), .ref x_]
            refine V.toq (o' := (some p)) (by rw [hp]) ?_
            show V g A κ _ _ 0 0 (tmO E tm ka va lf_ rt_ pa_ co_ vl root_ n md h0) 209 [(2, va_rf (lf_ gp)), (0, .ref tm), (1, .ref x_)] [.ref p, .ref x_]
            refine V.callS (As := [.ref p]) (rest := [.ref x_]) cx (m_leftOfS l hl g A E tm ka va lf_ rt_ pa_ co_ vl root_ n md h0 p hpE) q1057 q1058 (na := 1) rfl (by decide +kernel) (Nat.le_of_ble_eq_true rfl) (by decide) (by decide) (by decide) rfl dJ1_fixAfterInsertion_209 (fun _ _ _ hx => hx.elim) (fun v107 h108 hp => ?_)
            obtain ⟨rfl, rfl⟩ := hp
            show V g A κ _ _ 0 0 (tmO E tm ka va lf_ rt_ pa_ co_ vl root_ n md h0) 212 [(2, va_rf (lf_ gp)), (0, .ref tm), (1, .ref x_)] [va_rf (lf_ p), .ref x_]
            show V g A κ _ _ 0 0 (tmO E tm ka va lf_ rt_ pa_ co_ vl root_ n md h0) 212 [(2, va_rf (lf_ gp)), (0, .ref tm), (1, .ref x_)] [va_rf (lf_ p), .ref x_]
            refine V.acmp_ne (rx := (some x_)) (ry := (lf_ p)) (tgt := 225) cx dJ1_fixAfterInsertion_212 (by decide) (fun cq => ?_) (fun cq => ?_)
            · refine V.aload_n cx dJ1_fixAfterInsertion_225 rfl 2 rfl ?_
              refine V.callS (As := [.ref x_]) (rest := []) cx (m_parentOfS l hl g A E tm ka va lf_ rt_ pa_ co_ vl root_ n md h0 x_ hx_) q1054 q1055 (na := 1) rfl (by decide +kernel) (Nat.le_of_ble_eq_true rfl) (by decide) (by decide) (by decide) rfl dJ1_fixAfterInsertion_226 (fun _ _ _ hx => hx.elim) (fun v109 h110 hp => ?_)
              obtain ⟨rfl, rfl⟩ := hp
              show V g A κ _ _ 0 0 (tmO E tm ka va lf_ rt_ pa_ co_ vl root_ n md h0) 229 [(2, va_rf (lf_ gp)), (0, .ref tm), (1, .ref x_)] [va_rf (pa_ x_)]
              refine V.toq (o' := (some p)) (by rw [hp]) ?_
              show V g A κ _ _ 0 0 (tmO E tm ka va lf_ rt_ pa_ co_ vl root_ n md h0) 229 [(2, va_rf (lf_ gp)), (0, .ref tm), (1, .ref x_)] [.ref p]
              refine V.iconst (v := (nI 1)) cx dJ1_fixAfterInsertion_229 (by decide) ?_
              refine V.toi (y := b2 true) (by decide) ?_
              refine V.callS (As := [.ref p, .int (b2 true)]) (rest := []) cx (m_setColorS l hl g A E tm ka va lf_ rt_ pa_ co_ vl root_ n md h0 p hpE true) q1066 q1067 (na := 2) rfl (by decide +kernel) (Nat.le_of_ble_eq_true rfl) (by decide) (by decide) (by decide) rfl dJ1_fixAfterInsertion_230 (fun _ _ _ hx => hx.elim) (fun v111 h112 hp => ?_)
              obtain ⟨rfl, rfl⟩ := hp
              show V g A κ _ _ 0 0 (tmO E tm ka va lf_ rt_ pa_ (va_up co_ p true) vl root_ n md h0) 233 [(2, va_rf (lf_ gp)), (0, .ref tm), (1, .ref x_)] []
              refine V.aload_n cx dJ1_fixAfterInsertion_233 rfl 2 rfl ?_
              refine V.callS (As := [.ref x_]) (rest := []) cx (m_parentOfS l hl g A E tm ka va lf_ rt_ pa_ (va_up co_ p true) vl root_ n md h0 x_ hx_) q1054 q1055 (na := 1) rfl (by decide +kernel) (Nat.le_of_ble_eq_true rfl) (by decide) (by decide) (by decide) rfl dJ1_fixAfterInsertion_234 (fun _ _ _ hx => hx.elim) (fun v113 h114 hp => ?_)
              obtain ⟨rfl, rfl⟩ := hp
              show V g A κ _ _ 0 0 (tmO E tm ka va lf_ rt_ pa_ (va_up co_ p true) vl root_ n md h0) 237 [(2, va_rf (lf_ gp)), (0, .ref tm), (1, .ref x_)] [va_rf (pa_ x_)]
              refine V.toq (o' := (some p)) (by rw [hp]) ?_
              show V g A κ _ _ 0 0 (tmO E tm ka va lf_ rt_ pa_ (va_up co_ p true) vl root_ n md h0) 237 [(2, va_rf (lf_ gp)), (0, .ref tm), (1, .ref x_)] [.ref p]
              refine V.callS (As := [.ref p]) (rest := []) cx (m_parentOfS l hl g A E tm ka va lf_ rt_ pa_ (va_up co_ p true) vl root_ n md h0 p hpE) q1054 q1055 (na := 1) rfl (by decide +kernel) (Nat.le_of_ble_eq_true rfl) (by decide) (by decide) (by decide) rfl dJ1_fixAfterInsertion_237 (fun _ _ _ hx => hx.elim) (fun v115 h116 hp => ?_)
              obtain ⟨rfl, rfl⟩ := hp
              show V g A κ _ _ 0 0 (tmO E tm ka va lf_ rt_ pa_ (va_up co_ p true) vl root_ n md h0) 240 [(2, va_rf (lf_ gp)), (0, .ref tm), (1, .ref x_)] [va_rf (pa_ p)]
              refine V.toq (o' := (some gp)) (by rw [hgp]) ?_
              show V g A κ _ _ 0 0 (tmO E tm ka va lf_ rt_ pa_ (va_up co_ p true) vl root_ n md h0) 240 [(2, va_rf (lf_ gp)), (0, .ref tm), (1, .ref x_)] [.ref gp]
              refine V.iconst (v := (nI 0)) cx dJ1_fixAfterInsertion_240 (by decide) ?_
              refine V.toi (y := b2 false) (by decide) ?_
              refine V.callS (As := [.ref gp, .int (b2 false)]) (rest := []) cx (m_setColorS l hl g A E tm ka va lf_ rt_ pa_ (va_up co_ p true) vl root_ n md h0 gp hgE false) q1066 q1067 (na := 2) rfl (by decide +kernel) (Nat.le_of_ble_eq_true rfl) (by decide) (by decide) (by decide) rfl dJ1_fixAfterInsertion_241 (fun _ _ _ hx => hx.elim) (fun v117 h118 hp => ?_)
              obtain ⟨rfl, rfl⟩ := hp
              show V g A κ _ _ 0 0 (tmO E tm ka va lf_ rt_ pa_ (va_up (va_up co_ p true) gp false) vl root_ n md h0) 244 [(2, va_rf (lf_ gp)), (0, .ref tm), (1, .ref x_)] []
              refine V.aload_n cx dJ1_fixAfterInsertion_244 rfl 1 rfl ?_
              refine V.aload_n cx dJ1_fixAfterInsertion_245 rfl 2 rfl ?_
              refine V.callS (As := [.ref x_]) (rest := [.ref tm]) cx (m_parentOfS l hl g A E tm ka va lf_ rt_ pa_ (va_up (va_up co_ p true) gp false) vl root_ n md h0 x_ hx_) q1054 q1055 (na := 1) rfl (by decide +kernel) (Nat.le_of_ble_eq_true rfl) (by decide) (by decide) (by decide) rfl dJ1_fixAfterInsertion_246 (fun _ _ _ hx => hx.elim) (fun v119 h120 hp => ?_)
              obtain ⟨rfl, rfl⟩ := hp
              show V g A κ _ _ 0 0 (tmO E tm ka va lf_ rt_ pa_ (va_up (va_up co_ p true) gp false) vl root_ n md h0) 249 [(2, va_rf (lf_ gp)), (0, .ref tm), (1, .ref x_)] [va_rf (pa_ x_), .ref tm]
              refine V.toq (o' := (some p)) (by rw [hp]) ?_
              show V g A κ _ _ 0 0 (tmO E tm ka va lf_ rt_ pa_ (va_up (va_up co_ p true) gp false) vl root_ n md h0) 249 [(2, va_rf (lf_ gp)), (0, .ref tm), (1, .ref x_)] [.ref p, .ref tm]
              refine V.callS (As := [.ref p]) (rest := [.ref tm]) cx (m_parentOfS l hl g A E tm ka va lf_ rt_ pa_ (va_up (va_up co_ p true) gp false) vl root_ n md h0 p hpE) q1054 q1055 (na := 1) rfl (by decide +kernel) (Nat.le_of_ble_eq_true rfl) (by decide) (by decide) (by decide) rfl dJ1_fixAfterInsertion_249 (fun _ _ _ hx => hx.elim) (fun v121 h122 hp => ?_)
              obtain ⟨rfl, rfl⟩ := hp
              show V g A κ _ _ 0 0 (tmO E tm ka va lf_ rt_ pa_ (va_up (va_up co_ p true) gp false) vl root_ n md h0) 252 [(2, va_rf (lf_ gp)), (0, .ref tm), (1, .ref x_)] [va_rf (pa_ p), .ref tm]
              refine V.toq (o' := (some gp)) (by rw [hgp]) ?_
              show V g A κ _ _ 0 0 (tmO E tm ka va lf_ rt_ pa_ (va_up (va_up co_ p true) gp false) vl root_ n md h0) 252 [(2, va_rf (lf_ gp)), (0, .ref tm), (1, .ref x_)] [.ref gp, .ref tm]
              refine V.callV (As := [.ref gp]) (rest := []) (C := "java/util/TreeMap") cx (m_rotL l hl g A E tm ka va lf_ rt_ pa_ (va_up (va_up co_ p true) gp false) vl root_ n md h0 ix lo_ hi_ hI_ ht gp p hgE hgs) rfl q1069 q1071 qs9 (Rv.of kJ1 (tm_t ht)) (na := 1) rfl (by decide +kernel) (Nat.le_of_ble_eq_true rfl) (by decide) (by decide) (by decide) rfl dJ1_fixAfterInsertion_252 (fun _ _ _ hx => hx.elim) (fun v123 h124 hp => ?_)
              obtain ⟨rfl, rfl⟩ := hp
              show V g A κ _ _ 0 0 (tmO E tm ka va (rlf lf_ pa_ gp p) (rrt lf_ rt_ pa_ gp p) (rpa lf_ pa_ gp p) (va_up (va_up co_ p true) gp false) vl (if pa_ gp = none then some p else root_) n md h0) 255 [(2, va_rf (lf_ gp)), (0, .ref tm), (1, .ref x_)] []
              obtain ⟨lf2, rt2, pa2, root2, lo2, hi2, hI2, e12, e22, e32, e42, e52, e62⟩ : ∃ (lf2 rt2 pa2 : Nat → Option Nat) (root2 : Option Nat) (lo2 hi2 : Nat → Nat), Inv E ix lo2 hi2 lf2 rt2 pa2 root2 ∧ (rlf lf_ pa_ gp p) = lf2 ∧ (rrt lf_ rt_ pa_ gp p) = rt2 ∧ (rpa lf_ pa_ gp p) = pa2 ∧ (if pa_ gp = none then some p else root_) = root2 ∧ (va_up lo_ p (lo_ gp)) = lo2 ∧ (va_up hi_ gp (ix p)) = hi2 := ⟨_, _, _, _, _, _, Inv.rotL hI_ hgE hgs, rfl, rfl, rfl, rfl, rfl, rfl⟩
              refine V.hto (h' := (tmO E tm ka va lf2 rt2 pa2 (va_up (va_up co_ p true) gp false) vl root2 n md h0)) (by rw [e12, e22, e32, e42]) ?_
              show V g A κ _ _ 0 0 (tmO E tm ka va lf2 rt2 pa2 (va_up (va_up co_ p true) gp false) vl root2 n md h0) 255 [(2, va_rf (lf_ gp)), (0, .ref tm), (1, .ref x_)] []
              have hp2 : pa2 x_ = some p := by rw [← e32]; unfold rpa; have hnr := (show ¬ lf_ p = some x_ from fun e => cq e.symm); clear e12 e22 e32 e42; grind
              refine V.goto (tgt := 5) cx dJ1_fixAfterInsertion_255 (by decide) ?_
              refine V.aload_n cx dJ1_fixAfterInsertion_5 rfl 2 rfl ?_
              refine V.ifnull cx dJ1_fixAfterInsertion_6 ?_
              refine V.aload_n cx dJ1_fixAfterInsertion_9 rfl 2 rfl ?_
              refine V.aload_n cx dJ1_fixAfterInsertion_10 rfl 1 rfl ?_
              refine V.get cx kJ1 (tm_t ht) 3 (by decide) q158 rfl rfl dJ1_fixAfterInsertion_11 ?_
              show V g A κ _ _ 0 0 (tmO E tm ka va lf2 rt2 pa2 (va_up (va_up co_ p true) gp false) vl root2 n md h0) 14 [(2, va_rf (lf_ gp)), (0, .ref tm), (1, .ref x_)] [va_rf root2, .ref x_]
              refine V.acmp_eq (rx := (some x_)) (ry := root2) (tgt := 258) cx dJ1_fixAfterInsertion_14 (by decide) (fun cu => ?_) (fun cu => ?_)
              · rcases opt_c root2 with hrr | ⟨rr, hrr⟩
                · exact absurd (Inv.root_some hI2 hx_) (fun e => absurd (hrr.symm.trans e.choose_spec) (by intro e; cases e))
                · refine V.hto (h' := (tmO E tm ka va lf2 rt2 pa2 (va_up (va_up co_ p true) gp false) vl (some rr) n md h0)) (by rw [hrr]) ?_
                  show V g A κ _ _ 0 0 (tmO E tm ka va lf2 rt2 pa2 (va_up (va_up co_ p true) gp false) vl (some rr) n md h0) 258 [(2, va_rf (lf_ gp)), (0, .ref tm), (1, .ref x_)] []
                  refine V.aload_n cx dJ1_fixAfterInsertion_258 rfl 1 rfl ?_
                  refine V.get cx kJ1 (tm_t ht) 3 (by decide) q158 rfl rfl dJ1_fixAfterInsertion_259 ?_
                  show V g A κ _ _ 0 0 (tmO E tm ka va lf2 rt2 pa2 (va_up (va_up co_ p true) gp false) vl (some rr) n md h0) 262 [(2, va_rf (lf_ gp)), (0, .ref tm), (1, .ref x_)] [.ref rr]
                  refine V.iconst (v := (nI 1)) cx dJ1_fixAfterInsertion_262 (by decide) ?_
                  refine V.toi (y := b2 true) (by decide) ?_
                  refine V.put (ty := tyJ25 5) cx kJ25 (tm_e (hI2.2.2.2.2.2.2 rr hrr).1) 5 (by decide) rfl (tyJ25_ok 5 (by decide)) b2_narrow b2_fits (Nat.le_of_ble_eq_true rfl) q1032 rfl dJ1_fixAfterInsertion_263 ?_
                  refine V.hto (tm_co (b := true) (hI2.2.2.2.2.2.2 rr hrr).1) ?_
                  show V g A κ _ _ 0 0 (tmO E tm ka va lf2 rt2 pa2 (va_up (va_up (va_up co_ p true) gp false) rr true) vl (some rr) n md h0) 266 [(2, va_rf (lf_ gp)), (0, .ref tm), (1, .ref x_)] []
                  exact V.vreturn cx rfl ⟨rfl, _, _, _, _, _, _, _, hrr ▸ hI2, fun r hr => by cases hr; exact va_up_self _ _ _, rfl⟩ (by decide) (by decide) dJ1_fixAfterInsertion_266
              · refine V.aload_n cx dJ1_fixAfterInsertion_17 rfl 2 rfl ?_
                refine V.get cx kJ25 (tm_e hx_) 4 (by decide) q1030 rfl rfl dJ1_fixAfterInsertion_18 ?_
                refine V.toq (o' := (some p)) (by rw [hp2]) ?_
                show V g A κ _ _ 0 0 (tmO E tm ka va lf2 rt2 pa2 (va_up (va_up co_ p true) gp false) vl root2 n md h0) 21 [(2, va_rf (lf_ gp)), (0, .ref tm), (1, .ref x_)] [.ref p]
                refine V.get cx kJ25 (tm_e hpE) 5 (by decide) q1032 rfl rfl dJ1_fixAfterInsertion_21 ?_
                refine V.tob (b := true) (by rw [va_up_ne _ _ npg, va_up_self]) ?_
                show V g A κ _ _ 0 0 (tmO E tm ka va lf2 rt2 pa2 (va_up (va_up co_ p true) gp false) vl root2 n md h0) 24 [(2, va_rf (lf_ gp)), (0, .ref tm), (1, .ref x_)] [.int (b2 true)]
                refine V.bif_ne (tgt := 258) cx dJ1_fixAfterInsertion_24 (by decide) (fun cw => ?_) (fun cw => ?_)
                · rcases opt_c root2 with hrr | ⟨rr, hrr⟩
                  · exact absurd (Inv.root_some hI2 hx_) (fun e => absurd (hrr.symm.trans e.choose_spec) (by intro e; cases e))
                  · refine V.hto (h' := (tmO E tm ka va lf2 rt2 pa2 (va_up (va_up co_ p true) gp false) vl (some rr) n md h0)) (by rw [hrr]) ?_
                    show V g A κ _ _ 0 0 (tmO E tm ka va lf2 rt2 pa2 (va_up (va_up co_ p true) gp false) vl (some rr) n md h0) 258 [(2, va_rf (lf_ gp)), (0, .ref tm), (1, .ref x_)] []
                    refine V.aload_n cx dJ1_fixAfterInsertion_258 rfl 1 rfl ?_
                    refine V.get cx kJ1 (tm_t ht) 3 (by decide) q158 rfl rfl dJ1_fixAfterInsertion_259 ?_
                    show V g A κ _ _ 0 0 (tmO E tm ka va lf2 rt2 pa2 (va_up (va_up co_ p true) gp false) vl (some rr) n md h0) 262 [(2, va_rf (lf_ gp)), (0, .ref tm), (1, .ref x_)] [.ref rr]
                    refine V.iconst (v := (nI 1)) cx dJ1_fixAfterInsertion_262 (by decide) ?_
                    refine V.toi (y := b2 true) (by decide) ?_
                    refine V.put (ty := tyJ25 5) cx kJ25 (tm_e (hI2.2.2.2.2.2.2 rr hrr).1) 5 (by decide) rfl (tyJ25_ok 5 (by decide)) b2_narrow b2_fits (Nat.le_of_ble_eq_true rfl) q1032 rfl dJ1_fixAfterInsertion_263 ?_
                    refine V.hto (tm_co (b := true) (hI2.2.2.2.2.2.2 rr hrr).1) ?_
                    show V g A κ _ _ 0 0 (tmO E tm ka va lf2 rt2 pa2 (va_up (va_up (va_up co_ p true) gp false) rr true) vl (some rr) n md h0) 266 [(2, va_rf (lf_ gp)), (0, .ref tm), (1, .ref x_)] []
                    exact V.vreturn cx rfl ⟨rfl, _, _, _, _, _, _, _, hrr ▸ hI2, fun r hr => by cases hr; exact va_up_self _ _ _, rfl⟩ (by decide) (by decide) dJ1_fixAfterInsertion_266
                · exact absurd cw (by decide)
            · refine V.aload_n cx dJ1_fixAfterInsertion_215 rfl 2 rfl ?_
              refine V.callS (As := [.ref x_]) (rest := []) cx (m_parentOfS l hl g A E tm ka va lf_ rt_ pa_ co_ vl root_ n md h0 x_ hx_) q1054 q1055 (na := 1) rfl (by decide +kernel) (Nat.le_of_ble_eq_true rfl) (by decide) (by decide) (by decide) rfl dJ1_fixAfterInsertion_216 (fun _ _ _ hx => hx.elim) (fun v125 h126 hp => ?_)
              obtain ⟨rfl, rfl⟩ := hp
              show V g A κ _ _ 0 0 (tmO E tm ka va lf_ rt_ pa_ co_ vl root_ n md h0) 219 [(2, va_rf (lf_ gp)), (0, .ref tm), (1, .ref x_)] [va_rf (pa_ x_)]
              refine V.toq (o' := (some p)) (by rw [hp]) ?_
              show V g A κ _ _ 0 0 (tmO E tm ka va lf_ rt_ pa_ co_ vl root_ n md h0) 219 [(2, va_rf (lf_ gp)), (0, .ref tm), (1, .ref x_)] [.ref p]
              refine V.astore_n (lv' := [(1, .ref p), (2, va_rf (lf_ gp)), (0, .ref tm)]) cx dJ1_fixAfterInsertion_219 rfl (by decide) rfl ?_
              refine V.aload_n cx dJ1_fixAfterInsertion_220 rfl 2 rfl ?_
              refine V.aload_n cx dJ1_fixAfterInsertion_221 rfl 0 rfl ?_
              refine V.callV (As := [.ref p]) (rest := []) (C := "java/util/TreeMap") cx (m_rotR l hl g A E tm ka va lf_ rt_ pa_ co_ vl root_ n md h0 ix lo_ hi_ hI_ ht p x_ hpE cq.symm) rfl q1073 q1075 qs10 (Rv.of kJ1 (tm_t ht)) (na := 1) rfl (by decide +kernel) (Nat.le_of_ble_eq_true rfl) (by decide) (by decide) (by decide) rfl dJ1_fixAfterInsertion_222 (fun _ _ _ hx => hx.elim) (fun v127 h128 hp => ?_)
              obtain ⟨rfl, rfl⟩ := hp
              show V g A κ _ _ 0 0 (tmO E tm ka va (rrt rt_ lf_ pa_ p x_) (rlf rt_ pa_ p x_) (rpa rt_ pa_ p x_) co_ vl (if pa_ p = none then some x_ else root_) n md h0) 225 [(1, .ref p), (2, va_rf (lf_ gp)), (0, .ref tm)] []
              obtain ⟨rt1, lf1, pa1, root1, lo1, hi1, hI1, e11, e21, e31, e41, e51, e61⟩ : ∃ (rt1 lf1 pa1 : Nat → Option Nat) (root1 : Option Nat) (lo1 hi1 : Nat → Nat), Inv E ix lo1 hi1 lf1 rt1 pa1 root1 ∧ (rlf rt_ pa_ p x_) = rt1 ∧ (rrt rt_ lf_ pa_ p x_) = lf1 ∧ (rpa rt_ pa_ p x_) = pa1 ∧ (if pa_ p = none then some x_ else root_) = root1 ∧ (va_up lo_ p (ix x_ + 1)) = lo1 ∧ (va_up hi_ x_ (hi_ p)) = hi1 := ⟨_, _, _, _, _, _, Inv.rotR hI_ hpE cq.symm, rfl, rfl, rfl, rfl, rfl, rfl⟩
              refine V.hto (h' := (tmO E tm ka va lf1 rt1 pa1 co_ vl root1 n md h0)) (by rw [e11, e21, e31, e41]) ?_
              show V g A κ _ _ 0 0 (tmO E tm ka va lf1 rt1 pa1 co_ vl root1 n md h0) 225 [(1, .ref p), (2, va_rf (lf_ gp)), (0, .ref tm)] []
              have g1 : pa1 p = some x_ := by rw [← e31]; unfold rpa; rw [if_pos rfl]
              have g2 : pa1 x_ = some gp := by rw [← e31]; unfold rpa; rw [if_neg nxp, if_pos rfl]; exact hgp
              have g3 : rt1 gp = some x_ := by rw [← e11]; unfold rlf; rw [if_neg (Ne.symm nxg), if_pos ⟨hgp, hgs⟩]
              have g4 : ¬ lf1 x_ = some p := by rw [← e21]; unfold rrt; rw [if_neg nxp, if_neg (fun e => nxg (Option.some.inj (e.1.symm.trans hgp)))]; intro e; clear e11 e21 e31 e41; grind
              refine V.aload_n cx dJ1_fixAfterInsertion_225 rfl 0 rfl ?_
              refine V.callS (As := [.ref p]) (rest := []) cx (m_parentOfS l hl g A E tm ka va lf1 rt1 pa1 co_ vl root1 n md h0 p hpE) q1054 q1055 (na := 1) rfl (by decide +kernel) (Nat.le_of_ble_eq_true rfl) (by decide) (by decide) (by decide) rfl dJ1_fixAfterInsertion_226 (fun _ _ _ hx => hx.elim) (fun v129 h130 hp => ?_)
              obtain ⟨rfl, rfl⟩ := hp
              show V g A κ _ _ 0 0 (tmO E tm ka va lf1 rt1 pa1 co_ vl root1 n md h0) 229 [(1, .ref p), (2, va_rf (lf_ gp)), (0, .ref tm)] [va_rf (pa1 p)]
              refine V.toq (o' := (some x_)) (by rw [g1]) ?_
              show V g A κ _ _ 0 0 (tmO E tm ka va lf1 rt1 pa1 co_ vl root1 n md h0) 229 [(1, .ref p), (2, va_rf (lf_ gp)), (0, .ref tm)] [.ref x_]
              refine V.iconst (v := (nI 1)) cx dJ1_fixAfterInsertion_229 (by decide) ?_
              refine V.toi (y := b2 true) (by decide) ?_
              refine V.callS (As := [.ref x_, .int (b2 true)]) (rest := []) cx (m_setColorS l hl g A E tm ka va lf1 rt1 pa1 co_ vl root1 n md h0 x_ hx_ true) q1066 q1067 (na := 2) rfl (by decide +kernel) (Nat.le_of_ble_eq_true rfl) (by decide) (by decide) (by decide) rfl dJ1_fixAfterInsertion_230 (fun _ _ _ hx => hx.elim) (fun v131 h132 hp => ?_)
              obtain ⟨rfl, rfl⟩ := hp
              show V g A κ _ _ 0 0 (tmO E tm ka va lf1 rt1 pa1 (va_up co_ x_ true) vl root1 n md h0) 233 [(1, .ref p), (2, va_rf (lf_ gp)), (0, .ref tm)] []
              refine V.aload_n cx dJ1_fixAfterInsertion_233 rfl 0 rfl ?_
              refine V.callS (As := [.ref p]) (rest := []) cx (m_parentOfS l hl g A E tm ka va lf1 rt1 pa1 (va_up co_ x_ true) vl root1 n md h0 p hpE) q1054 q1055 (na := 1) rfl (by decide +kernel) (Nat.le_of_ble_eq_true rfl) (by decide) (by decide) (by decide) rfl dJ1_fixAfterInsertion_234 (fun _ _ _ hx => hx.elim) (fun v133 h134 hp => ?_)
              obtain ⟨rfl, rfl⟩ := hp
              show V g A κ _ _ 0 0 (tmO E tm ka va lf1 rt1 pa1 (va_up co_ x_ true) vl root1 n md h0) 237 [(1, .ref p), (2, va_rf (lf_ gp)), (0, .ref tm)] [va_rf (pa1 p)]
              refine V.toq (o' := (some x_)) (by rw [g1]) ?_
              show V g A κ _ _ 0 0 (tmO E tm ka va lf1 rt1 pa1 (va_up co_ x_ true) vl root1 n md h0) 237 [(1, .ref p), (2, va_rf (lf_ gp)), (0, .ref tm)] [.ref x_]
              refine V.callS (As := [.ref x_]) (rest := []) cx (m_parentOfS l hl g A E tm ka va lf1 rt1 pa1 (va_up co_ x_ true) vl root1 n md h0 x_ hx_) q1054 q1055 (na := 1) rfl (by decide +kernel) (Nat.le_of_ble_eq_true rfl) (by decide) (by decide) (by decide) rfl dJ1_fixAfterInsertion_237 (fun _ _ _ hx => hx.elim) (fun v135 h136 hp => ?_)
              obtain ⟨rfl, rfl⟩ := hp
              show V g A κ _ _ 0 0 (tmO E tm ka va lf1 rt1 pa1 (va_up co_ x_ true) vl root1 n md h0) 240 [(1, .ref p), (2, va_rf (lf_ gp)), (0, .ref tm)] [va_rf (pa1 x_)]
              refine V.toq (o' := (some gp)) (by rw [g2]) ?_
              show V g A κ _ _ 0 0 (tmO E tm ka va lf1 rt1 pa1 (va_up co_ x_ true) vl root1 n md h0) 240 [(1, .ref p), (2, va_rf (lf_ gp)), (0, .ref tm)] [.ref gp]
              refine V.iconst (v := (nI 0)) cx dJ1_fixAfterInsertion_240 (by decide) ?_
              refine V.toi (y := b2 false) (by decide) ?_
              refine V.callS (As := [.ref gp, .int (b2 false)]) (rest := []) cx (m_setColorS l hl g A E tm ka va lf1 rt1 pa1 (va_up co_ x_ true) vl root1 n md h0 gp hgE false) q1066 q1067 (na := 2) rfl (by decide +kernel) (Nat.le_of_ble_eq_true rfl) (by decide) (by decide) (by decide) rfl dJ1_fixAfterInsertion_241 (fun _ _ _ hx => hx.elim) (fun v137 h138 hp => ?_)
              obtain ⟨rfl, rfl⟩ := hp
              show V g A κ _ _ 0 0 (tmO E tm ka va lf1 rt1 pa1 (va_up (va_up co_ x_ true) gp false) vl root1 n md h0) 244 [(1, .ref p), (2, va_rf (lf_ gp)), (0, .ref tm)] []
              refine V.aload_n cx dJ1_fixAfterInsertion_244 rfl 2 rfl ?_
              refine V.aload_n cx dJ1_fixAfterInsertion_245 rfl 0 rfl ?_
              refine V.callS (As := [.ref p]) (rest := [.ref tm]) cx (m_parentOfS l hl g A E tm ka va lf1 rt1 pa1 (va_up (va_up co_ x_ true) gp false) vl root1 n md h0 p hpE) q1054 q1055 (na := 1) rfl (by decide +kernel) (Nat.le_of_ble_eq_true rfl) (by decide) (by decide) (by decide) rfl dJ1_fixAfterInsertion_246 (fun _ _ _ hx => hx.elim) (fun v139 h140 hp => ?_)
              obtain ⟨rfl, rfl⟩ := hp
              show V g A κ _ _ 0 0 (tmO E tm ka va lf1 rt1 pa1 (va_up (va_up co_ x_ true) gp false) vl root1 n md h0) 249 [(1, .ref p), (2, va_rf (lf_ gp)), (0, .ref tm)] [va_rf (pa1 p), .ref tm]
              refine V.toq (o' := (some x_)) (by rw [g1]) ?_
              show V g A κ _ _ 0 0 (tmO E tm ka va lf1 rt1 pa1 (va_up (va_up co_ x_ true) gp false) vl root1 n md h0) 249 [(1, .ref p), (2, va_rf (lf_ gp)), (0, .ref tm)] [.ref x_, .ref tm]
              refine V.callS (As := [.ref x_]) (rest := [.ref tm]) cx (m_parentOfS l hl g A E tm ka va lf1 rt1 pa1 (va_up (va_up co_ x_ true) gp false) vl root1 n md h0 x_ hx_) q1054 q1055 (na := 1) rfl (by decide +kernel) (Nat.le_of_ble_eq_true rfl) (by decide) (by decide) (by decide) rfl dJ1_fixAfterInsertion_249 (fun _ _ _ hx => hx.elim) (fun v141 h142 hp => ?_)
              obtain ⟨rfl, rfl⟩ := hp
              show V g A κ _ _ 0 0 (tmO E tm ka va lf1 rt1 pa1 (va_up (va_up co_ x_ true) gp false) vl root1 n md h0) 252 [(1, .ref p), (2, va_rf (lf_ gp)), (0, .ref tm)] [va_rf (pa1 x_), .ref tm]
              refine V.toq (o' := (some gp)) (by rw [g2]) ?_
              show V g A κ _ _ 0 0 (tmO E tm ka va lf1 rt1 pa1 (va_up (va_up co_ x_ true) gp false) vl root1 n md h0) 252 [(1, .ref p), (2, va_rf (lf_ gp)), (0, .ref tm)] [.ref gp, .ref tm]
              refine V.callV (As := [.ref gp]) (rest := []) (C := "java/util/TreeMap") cx (m_rotL l hl g A E tm ka va lf1 rt1 pa1 (va_up (va_up co_ x_ true) gp false) vl root1 n md h0 ix lo1 hi1 hI1 ht gp x_ hgE g3) rfl q1069 q1071 qs9 (Rv.of kJ1 (tm_t ht)) (na := 1) rfl (by decide +kernel) (Nat.le_of_ble_eq_true rfl) (by decide) (by decide) (by decide) rfl dJ1_fixAfterInsertion_252 (fun _ _ _ hx => hx.elim) (fun v143 h144 hp => ?_)
              obtain ⟨rfl, rfl⟩ := hp
              show V g A κ _ _ 0 0 (tmO E tm ka va (rlf lf1 pa1 gp x_) (rrt lf1 rt1 pa1 gp x_) (rpa lf1 pa1 gp x_) (va_up (va_up co_ x_ true) gp false) vl (if pa1 gp = none then some x_ else root1) n md h0) 255 [(1, .ref p), (2, va_rf (lf_ gp)), (0, .ref tm)] []
              obtain ⟨lf2, rt2, pa2, root2, lo2, hi2, hI2, e12, e22, e32, e42, e52, e62⟩ : ∃ (lf2 rt2 pa2 : Nat → Option Nat) (root2 : Option Nat) (lo2 hi2 : Nat → Nat), Inv E ix lo2 hi2 lf2 rt2 pa2 root2 ∧ (rlf lf1 pa1 gp x_) = lf2 ∧ (rrt lf1 rt1 pa1 gp x_) = rt2 ∧ (rpa lf1 pa1 gp x_) = pa2 ∧ (if pa1 gp = none then some x_ else root1) = root2 ∧ (va_up lo1 x_ (lo1 gp)) = lo2 ∧ (va_up hi1 gp (ix x_)) = hi2 := ⟨_, _, _, _, _, _, Inv.rotL hI1 hgE g3, rfl, rfl, rfl, rfl, rfl, rfl⟩
              refine V.hto (h' := (tmO E tm ka va lf2 rt2 pa2 (va_up (va_up co_ x_ true) gp false) vl root2 n md h0)) (by rw [e12, e22, e32, e42]) ?_
              show V g A κ _ _ 0 0 (tmO E tm ka va lf2 rt2 pa2 (va_up (va_up co_ x_ true) gp false) vl root2 n md h0) 255 [(1, .ref p), (2, va_rf (lf_ gp)), (0, .ref tm)] []
              have hp2 : pa2 p = some x_ := by rw [← e32]; unfold rpa; have hnr := g4; clear e12 e22 e32 e42; grind
              refine V.goto (tgt := 5) cx dJ1_fixAfterInsertion_255 (by decide) ?_
              refine V.aload_n cx dJ1_fixAfterInsertion_5 rfl 0 rfl ?_
              refine V.ifnull cx dJ1_fixAfterInsertion_6 ?_
              refine V.aload_n cx dJ1_fixAfterInsertion_9 rfl 0 rfl ?_
              refine V.aload_n cx dJ1_fixAfterInsertion_10 rfl 2 rfl ?_
              refine V.get cx kJ1 (tm_t ht) 3 (by decide) q158 rfl rfl dJ1_fixAfterInsertion_11 ?_
              show V g A κ _ _ 0 0 (tmO E tm ka va lf2 rt2 pa2 (va_up (va_up co_ x_ true) gp false) vl root2 n md h0) 14 [(1, .ref p), (2, va_rf (lf_ gp)), (0, .ref tm)] [va_rf root2, .ref p]
              refine V.acmp_eq (rx := (some p)) (ry := root2) (tgt := 258) cx dJ1_fixAfterInsertion_14 (by decide) (fun cu => ?_) (fun cu => ?_)
              · rcases opt_c root2 with hrr | ⟨rr, hrr⟩
                · exact absurd (Inv.root_some hI2 hx_) (fun e => absurd (hrr.symm.trans e.choose_spec) (by intro e; cases e))
                · refine V.hto (h' := (tmO E tm ka va lf2 rt2 pa2 (va_up (va_up co_ x_ true) gp false) vl (some rr) n md h0)) (by rw [hrr]) ?_
                  show V g A κ _ _ 0 0 (tmO E tm ka va lf2 rt2 pa2 (va_up (va_up co_ x_ true) gp false) vl (some rr) n md h0) 258 [(1, .ref p), (2, va_rf (lf_ gp)), (0, .ref tm)] []
                  refine V.aload_n cx dJ1_fixAfterInsertion_258 rfl 2 rfl ?_
                  refine V.get cx kJ1 (tm_t ht) 3 (by decide) q158 rfl rfl dJ1_fixAfterInsertion_259 ?_
                  show V g A κ _ _ 0 0 (tmO E tm ka va lf2 rt2 pa2 (va_up (va_up co_ x_ true) gp false) vl (some rr) n md h0) 262 [(1, .ref p), (2, va_rf (lf_ gp)), (0, .ref tm)] [.ref rr]
                  refine V.iconst (v := (nI 1)) cx dJ1_fixAfterInsertion_262 (by decide) ?_
                  refine V.toi (y := b2 true) (by decide) ?_
                  refine V.put (ty := tyJ25 5) cx kJ25 (tm_e (hI2.2.2.2.2.2.2 rr hrr).1) 5 (by decide) rfl (tyJ25_ok 5 (by decide)) b2_narrow b2_fits (Nat.le_of_ble_eq_true rfl) q1032 rfl dJ1_fixAfterInsertion_263 ?_
                  refine V.hto (tm_co (b := true) (hI2.2.2.2.2.2.2 rr hrr).1) ?_
                  show V g A κ _ _ 0 0 (tmO E tm ka va lf2 rt2 pa2 (va_up (va_up (va_up co_ x_ true) gp false) rr true) vl (some rr) n md h0) 266 [(1, .ref p), (2, va_rf (lf_ gp)), (0, .ref tm)] []
                  exact V.vreturn cx rfl ⟨rfl, _, _, _, _, _, _, _, hrr ▸ hI2, fun r hr => by cases hr; exact va_up_self _ _ _, rfl⟩ (by decide) (by decide) dJ1_fixAfterInsertion_266
              · refine V.aload_n cx dJ1_fixAfterInsertion_17 rfl 0 rfl ?_
                refine V.get cx kJ25 (tm_e hpE) 4 (by decide) q1030 rfl rfl dJ1_fixAfterInsertion_18 ?_
                refine V.toq (o' := (some x_)) (by rw [hp2]) ?_
                show V g A κ _ _ 0 0 (tmO E tm ka va lf2 rt2 pa2 (va_up (va_up co_ x_ true) gp false) vl root2 n md h0) 21 [(1, .ref p), (2, va_rf (lf_ gp)), (0, .ref tm)] [.ref x_]
                refine V.get cx kJ25 (tm_e hx_) 5 (by decide) q1032 rfl rfl dJ1_fixAfterInsertion_21 ?_
                refine V.tob (b := true) (by rw [va_up_ne _ _ nxg, va_up_self]) ?_
                show V g A κ _ _ 0 0 (tmO E tm ka va lf2 rt2 pa2 (va_up (va_up co_ x_ true) gp false) vl root2 n md h0) 24 [(1, .ref p), (2, va_rf (lf_ gp)), (0, .ref tm)] [.int (b2 true)]
                refine V.bif_ne (tgt := 258) cx dJ1_fixAfterInsertion_24 (by decide) (fun cw => ?_) (fun cw => ?_)
                · rcases opt_c root2 with hrr | ⟨rr, hrr⟩
                  · exact absurd (Inv.root_some hI2 hx_) (fun e => absurd (hrr.symm.trans e.choose_spec) (by intro e; cases e))
                  · refine V.hto (h' := (tmO E tm ka va lf2 rt2 pa2 (va_up (va_up co_ x_ true) gp false) vl (some rr) n md h0)) (by rw [hrr]) ?_
                    show V g A κ _ _ 0 0 (tmO E tm ka va lf2 rt2 pa2 (va_up (va_up co_ x_ true) gp false) vl (some rr) n md h0) 258 [(1, .ref p), (2, va_rf (lf_ gp)), (0, .ref tm)] []
                    refine V.aload_n cx dJ1_fixAfterInsertion_258 rfl 2 rfl ?_
                    refine V.get cx kJ1 (tm_t ht) 3 (by decide) q158 rfl rfl dJ1_fixAfterInsertion_259 ?_
                    show V g A κ _ _ 0 0 (tmO E tm ka va lf2 rt2 pa2 (va_up (va_up co_ x_ true) gp false) vl (some rr) n md h0) 262 [(1, .ref p), (2, va_rf (lf_ gp)), (0, .ref tm)] [.ref rr]
                    refine V.iconst (v := (nI 1)) cx dJ1_fixAfterInsertion_262 (by decide) ?_
                    refine V.toi (y := b2 true) (by decide) ?_
                    refine V.put (ty := tyJ25 5) cx kJ25 (tm_e (hI2.2.2.2.2.2.2 rr hrr).1) 5 (by decide) rfl (tyJ25_ok 5 (by decide)) b2_narrow b2_fits (Nat.le_of_ble_eq_true rfl) q1032 rfl dJ1_fixAfterInsertion_263 ?_
                    refine V.hto (tm_co (b := true) (hI2.2.2.2.2.2.2 rr hrr).1) ?_
                    show V g A κ _ _ 0 0 (tmO E tm ka va lf2 rt2 pa2 (va_up (va_up (va_up co_ x_ true) gp false) rr true) vl (some rr) n md h0) 266 [(1, .ref p), (2, va_rf (lf_ gp)), (0, .ref tm)] []
                    exact V.vreturn cx rfl ⟨rfl, _, _, _, _, _, _, _, hrr ▸ hI2, fun r hr => by cases hr; exact va_up_self _ _ _, rfl⟩ (by decide) (by decide) dJ1_fixAfterInsertion_266
                · exact absurd cw (by decide)
          · exact absurd cb (by decide)
      · have hgs : lf_ gp = some p := by grind
        refine V.aload_n cx dJ1_fixAfterInsertion_44 rfl 1 rfl ?_
        refine V.callS (As := [.ref x_]) (rest := []) cx (m_parentOfS l hl g A E tm ka va lf_ rt_ pa_ co_ vl root_ n md h0 x_ hx_) q1054 q1055 (na := 1) rfl (by decide +kernel) (Nat.le_of_ble_eq_true rfl) (by decide) (by decide) (by decide) rfl dJ1_fixAfterInsertion_45 (fun _ _ _ hx => hx.elim) (fun v9 h10 hp => ?_)
        obtain ⟨rfl, rfl⟩ := hp
        show V g A κ _ _ 0 0 (tmO E tm ka va lf_ rt_ pa_ co_ vl root_ n md h0) 48 [(0, .ref tm), (1, .ref x_)] [va_rf (pa_ x_)]
        refine V.toq (o' := (some p)) (by rw [hp]) ?_
        show V g A κ _ _ 0 0 (tmO E tm ka va lf_ rt_ pa_ co_ vl root_ n md h0) 48 [(0, .ref tm), (1, .ref x_)] [.ref p]
        refine V.callS (As := [.ref p]) (rest := []) cx (m_parentOfS l hl g A E tm ka va lf_ rt_ pa_ co_ vl root_ n md h0 p hpE) q1054 q1055 (na := 1) rfl (by decide +kernel) (Nat.le_of_ble_eq_true rfl) (by decide) (by decide) (by decide) rfl dJ1_fixAfterInsertion_48 (fun _ _ _ hx => hx.elim) (fun v11 h12 hp => ?_)
        obtain ⟨rfl, rfl⟩ := hp
        show V g A κ _ _ 0 0 (tmO E tm ka va lf_ rt_ pa_ co_ vl root_ n md h0) 51 [(0, .ref tm), (1, .ref x_)] [va_rf (pa_ p)]
        refine V.toq (o' := (some gp)) (by rw [hgp]) ?_
        show V g A κ _ _ 0 0 (tmO E tm ka va lf_ rt_ pa_ co_ vl root_ n md h0) 51 [(0, .ref tm), (1, .ref x_)] [.ref gp]
        rcases unc (rt_ gp) co_ with ⟨u, hu, hcu⟩ | hcu
        · have huE : u ∈ E := ((hI_.2.2.2.1 gp hgE).2 u hu).1
          refine V.callS (As := [.ref gp]) (rest := []) cx (m_rightOfS l hl g A E tm ka va lf_ rt_ pa_ co_ vl root_ n md h0 gp hgE) q1060 q1061 (na := 1) rfl (by decide +kernel) (Nat.le_of_ble_eq_true rfl) (by decide) (by decide) (by decide) rfl dJ1_fixAfterInsertion_51 (fun _ _ _ hx => hx.elim) (fun v13 h14 hp => ?_)
          obtain ⟨rfl, rfl⟩ := hp
          show V g A κ _ _ 0 0 (tmO E tm ka va lf_ rt_ pa_ co_ vl root_ n md h0) 54 [(0, .ref tm), (1, .ref x_)] [va_rf (rt_ gp)]
          refine V.toq (o' := (some u)) (by rw [hu]) ?_
          show V g A κ _ _ 0 0 (tmO E tm ka va lf_ rt_ pa_ co_ vl root_ n md h0) 54 [(0, .ref tm), (1, .ref x_)] [.ref u]
          refine V.astore_n (lv' := [(2, .ref u), (0, .ref tm), (1, .ref x_)]) cx dJ1_fixAfterInsertion_54 rfl (by decide) rfl ?_
          refine V.aload_n cx dJ1_fixAfterInsertion_55 rfl 0 rfl ?_
          refine V.callS (As := [.ref u]) (rest := []) cx (m_colorOfS l hl g A E tm ka va lf_ rt_ pa_ co_ vl root_ n md h0 u huE) q1063 q1064 (na := 1) rfl (by decide +kernel) (Nat.le_of_ble_eq_true rfl) (by decide) (by decide) (by decide) rfl dJ1_fixAfterInsertion_56 (fun _ _ _ hx => hx.elim) (fun v15 h16 hp => ?_)
          obtain ⟨rfl, rfl⟩ := hp
          show V g A κ _ _ 0 0 (tmO E tm ka va lf_ rt_ pa_ co_ vl root_ n md h0) 59 [(2, .ref u), (0, .ref tm), (1, .ref x_)] [.int (b2 (co_ u))]
          refine V.tob (b := false) (by rw [hcu]) ?_
          show V g A κ _ _ 0 0 (tmO E tm ka va lf_ rt_ pa_ co_ vl root_ n md h0) 59 [(2, .ref u), (0, .ref tm), (1, .ref x_)] [.int (b2 false)]
          refine V.bif_ne (tgt := 97) cx dJ1_fixAfterInsertion_59 (by decide) (fun cb => ?_) (fun cb => ?_)
          · exact absurd cb (by decide)
          · refine V.aload_n cx dJ1_fixAfterInsertion_62 rfl 2 rfl ?_
            refine V.callS (As := [.ref x_]) (rest := []) cx (m_parentOfS l hl g A E tm ka va lf_ rt_ pa_ co_ vl root_ n md h0 x_ hx_) q1054 q1055 (na := 1) rfl (by decide +kernel) (Nat.le_of_ble_eq_true rfl) (by decide) (by decide) (by decide) rfl dJ1_fixAfterInsertion_63 (fun _ _ _ hx => hx.elim) (fun v17 h18 hp => ?_)
            obtain ⟨rfl, rfl⟩ := hp
            show V g A κ _ _ 0 0 (tmO E tm ka va lf_ rt_ pa_ co_ vl root_ n md h0) 66 [(2, .ref u), (0, .ref tm), (1, .ref x_)] [va_rf (pa_ x_)]
            refine V.toq (o' := (some p)) (by rw [hp]) ?_
            show V g A κ _ _ 0 0 (tmO E tm ka va lf_ rt_ pa_ co_ vl root_ n md h0) 66 [(2, .ref u), (0, .ref tm), (1, .ref x_)] [.ref p]
            refine V.iconst (v := (nI 1)) cx dJ1_fixAfterInsertion_66 (by decide) ?_
            refine V.toi (y := b2 true) (by decide) ?_
            refine V.callS (As := [.ref p, .int (b2 true)]) (rest := []) cx (m_setColorS l hl g A E tm ka va lf_ rt_ pa_ co_ vl root_ n md h0 p hpE true) q1066 q1067 (na := 2) rfl (by decide +kernel) (Nat.le_of_ble_eq_true rfl) (by decide) (by decide) (by decide) rfl dJ1_fixAfterInsertion_67 (fun _ _ _ hx => hx.elim) (fun v19 h20 hp => ?_)
            obtain ⟨rfl, rfl⟩ := hp
            show V g A κ _ _ 0 0 (tmO E tm ka va lf_ rt_ pa_ (va_up co_ p true) vl root_ n md h0) 70 [(2, .ref u), (0, .ref tm), (1, .ref x_)] []
            refine V.aload_n cx dJ1_fixAfterInsertion_70 rfl 0 rfl ?_
            refine V.iconst (v := (nI 1)) cx dJ1_fixAfterInsertion_71 (by decide) ?_
            refine V.toi (y := b2 true) (by decide) ?_
            refine V.callS (As := [.ref u, .int (b2 true)]) (rest := []) cx (m_setColorS l hl g A E tm ka va lf_ rt_ pa_ (va_up co_ p true) vl root_ n md h0 u huE true) q1066 q1067 (na := 2) rfl (by decide +kernel) (Nat.le_of_ble_eq_true rfl) (by decide) (by decide) (by decide) rfl dJ1_fixAfterInsertion_72 (fun _ _ _ hx => hx.elim) (fun v21 h22 hp => ?_)
            obtain ⟨rfl, rfl⟩ := hp
            show V g A κ _ _ 0 0 (tmO E tm ka va lf_ rt_ pa_ (va_up (va_up co_ p true) u true) vl root_ n md h0) 75 [(2, .ref u), (0, .ref tm), (1, .ref x_)] []
            refine V.aload_n cx dJ1_fixAfterInsertion_75 rfl 2 rfl ?_
            refine V.callS (As := [.ref x_]) (rest := []) cx (m_parentOfS l hl g A E tm ka va lf_ rt_ pa_ (va_up (va_up co_ p true) u true) vl root_ n md h0 x_ hx_) q1054 q1055 (na := 1) rfl (by decide +kernel) (Nat.le_of_ble_eq_true rfl) (by decide) (by decide) (by decide) rfl dJ1_fixAfterInsertion_76 (fun _ _ _ hx => hx.elim) (fun v23 h24 hp => ?_)
            obtain ⟨rfl, rfl⟩ := hp
            show V g A κ _ _ 0 0 (tmO E tm ka va lf_ rt_ pa_ (va_up (va_up co_ p true) u true) vl root_ n md h0) 79 [(2, .ref u), (0, .ref tm), (1, .ref x_)] [va_rf (pa_ x_)]
            refine V.toq (o' := (some p)) (by rw [hp]) ?_
            show V g A κ _ _ 0 0 (tmO E tm ka va lf_ rt_ pa_ (va_up (va_up co_ p true) u true) vl root_ n md h0) 79 [(2, .ref u), (0, .ref tm), (1, .ref x_)] [.ref p]
            refine V.callS (As := [.ref p]) (rest := []) cx (m_parentOfS l hl g A E tm ka va lf_ rt_ pa_ (va_up (va_up co_ p true) u true) vl root_ n md h0 p hpE) q1054 q1055 (na := 1) rfl (by decide +kernel) (Nat.le_of_ble_eq_true rfl) (by decide) (by decide) (by decide) rfl dJ1_fixAfterInsertion_79 (fun _ _ _ hx => hx.elim) (fun v25 h26 hp => ?_)
            obtain ⟨rfl, rfl⟩ := hp
            show V g A κ _ _ 0 0 (tmO E tm ka va lf_ rt_ pa_ (va_up (va_up co_ p true) u true) vl root_ n md h0) 82 [(2, .ref u), (0, .ref tm), (1, .ref x_)] [va_rf (pa_ p)]
            refine V.toq (o' := (some gp)) (by rw [hgp]) ?_
            show V g A κ _ _ 0 0 (tmO E tm ka va lf_ rt_ pa_ (va_up (va_up co_ p true) u true) vl root_ n md h0) 82 [(2, .ref u), (0, .ref tm), (1, .ref x_)] [.ref gp]
            refine V.iconst (v := (nI 0)) cx dJ1_fixAfterInsertion_82 (by decide) ?_
            refine V.toi (y := b2 false) (by decide) ?_
            refine V.callS (As := [.ref gp, .int (b2 false)]) (rest := []) cx (m_setColorS l hl g A E tm ka va lf_ rt_ pa_ (va_up (va_up co_ p true) u true) vl root_ n md h0 gp hgE false) q1066 q1067 (na := 2) rfl (by decide +kernel) (Nat.le_of_ble_eq_true rfl) (by decide) (by decide) (by decide) rfl dJ1_fixAfterInsertion_83 (fun _ _ _ hx => hx.elim) (fun v27 h28 hp => ?_)
            obtain ⟨rfl, rfl⟩ := hp
            show V g A κ _ _ 0 0 (tmO E tm ka va lf_ rt_ pa_ (va_up (va_up (va_up co_ p true) u true) gp false) vl root_ n md h0) 86 [(2, .ref u), (0, .ref tm), (1, .ref x_)] []
            refine V.aload_n cx dJ1_fixAfterInsertion_86 rfl 2 rfl ?_
            refine V.callS (As := [.ref x_]) (rest := []) cx (m_parentOfS l hl g A E tm ka va lf_ rt_ pa_ (va_up (va_up (va_up co_ p true) u true) gp false) vl root_ n md h0 x_ hx_) q1054 q1055 (na := 1) rfl (by decide +kernel) (Nat.le_of_ble_eq_true rfl) (by decide) (by decide) (by decide) rfl dJ1_fixAfterInsertion_87 (fun _ _ _ hx => hx.elim) (fun v29 h30 hp => ?_)
            obtain ⟨rfl, rfl⟩ := hp
            show V g A κ _ _ 0 0 (tmO E tm ka va lf_ rt_ pa_ (va_up (va_up (va_up co_ p true) u true) gp false) vl root_ n md h0) 90 [(2, .ref u), (0, .ref tm), (1, .ref x_)] [va_rf (pa_ x_)]
            refine V.toq (o' := (some p)) (by rw [hp]) ?_
            show V g A κ _ _ 0 0 (tmO E tm ka va lf_ rt_ pa_ (va_up (va_up (va_up co_ p true) u true) gp false) vl root_ n md h0) 90 [(2, .ref u), (0, .ref tm), (1, .ref x_)] [.ref p]
            refine V.callS (As := [.ref p]) (rest := []) cx (m_parentOfS l hl g A E tm ka va lf_ rt_ pa_ (va_up (va_up (va_up co_ p true) u true) gp false) vl root_ n md h0 p hpE) q1054 q1055 (na := 1) rfl (by decide +kernel) (Nat.le_of_ble_eq_true rfl) (by decide) (by decide) (by decide) rfl dJ1_fixAfterInsertion_90 (fun _ _ _ hx => hx.elim) (fun v31 h32 hp => ?_)
            obtain ⟨rfl, rfl⟩ := hp
            show V g A κ _ _ 0 0 (tmO E tm ka va lf_ rt_ pa_ (va_up (va_up (va_up co_ p true) u true) gp false) vl root_ n md h0) 93 [(2, .ref u), (0, .ref tm), (1, .ref x_)] [va_rf (pa_ p)]
            refine V.toq (o' := (some gp)) (by rw [hgp]) ?_
            show V g A κ _ _ 0 0 (tmO E tm ka va lf_ rt_ pa_ (va_up (va_up (va_up co_ p true) u true) gp false) vl root_ n md h0) 93 [(2, .ref u), (0, .ref tm), (1, .ref x_)] [.ref gp]
            refine V.astore_n (lv' := [(1, .ref gp), (2, .ref u), (0, .ref tm)]) cx dJ1_fixAfterInsertion_93 rfl (by decide) rfl ?_
            refine V.goto (tgt := 148) cx dJ1_fixAfterInsertion_94 (by decide) ?_
            refine V.goto (tgt := 5) cx dJ1_fixAfterInsertion_148 (by decide) ?_
            refine V.sub [2, 0] rfl ?_
            exact ih_ (gp, lo_, hi_, lf_, rt_, pa_, (va_up (va_up (va_up co_ p true) u true) gp false), root_) (by dsimp only; exact (by have h1 := i1 x_ hx_; have h2 := i1 p hpE; have h3 := i1 gp hgE; clear ih_; grind)) (by dsimp only; exact ⟨hI_, hgE, fun r hr => by have := hb_ r hr; unfold va_up; clear ih_; grind⟩)
        · refine V.callS (As := [.ref gp]) (rest := []) cx (m_rightOfS l hl g A E tm ka va lf_ rt_ pa_ co_ vl root_ n md h0 gp hgE) q1060 q1061 (na := 1) rfl (by decide +kernel) (Nat.le_of_ble_eq_true rfl) (by decide) (by decide) (by decide) rfl dJ1_fixAfterInsertion_51 (fun _ _ _ hx => hx.elim) (fun v33 h34 hp => ?_)
          obtain ⟨rfl, rfl⟩ := hp
          show V g A κ _ _ 0 0 (tmO E tm ka va lf_ rt_ pa_ co_ vl root_ n md h0) 54 [(0, .ref tm), (1, .ref x_)] [va_rf (rt_ gp)]
          show V g A κ _ _ 0 0 (tmO E tm ka va lf_ rt_ pa_ co_ vl root_ n md h0) 54 [(0, .ref tm), (1, .ref x_)] [va_rf (rt_ gp)]
          refine V.astore_nq (lv' := [(2, va_rf (rt_ gp)), (0, .ref tm), (1, .ref x_)]) cx dJ1_fixAfterInsertion_54 rfl (by decide) rfl ?_
          refine V.aload_nq cx dJ1_fixAfterInsertion_55 rfl 0 rfl ?_
          refine V.callS (As := [va_rf (rt_ gp)]) (rest := []) cx (m_colorOf l hl g A E tm ka va lf_ rt_ pa_ co_ vl root_ n md h0 (rt_ gp) (fun e he => ((hI_.2.2.2.1 gp hgE).2 e he).1)) q1063 q1064 (na := 1) rfl (by decide +kernel) (Nat.le_of_ble_eq_true rfl) (by decide) (by decide) (by decide) rfl dJ1_fixAfterInsertion_56 (fun _ _ _ hx => hx.elim) (fun v35 h36 hp => ?_)
          obtain ⟨rfl, rfl⟩ := hp
          show V g A κ _ _ 0 0 (tmO E tm ka va lf_ rt_ pa_ co_ vl root_ n md h0) 59 [(2, va_rf (rt_ gp)), (0, .ref tm), (1, .ref x_)] [.int (b2 (Option.elim (rt_ gp) true co_))]
          refine V.tob (b := true) hcu ?_
          refine V.bif_ne (tgt := 97) cx dJ1_fixAfterInsertion_59 (by decide) (fun cb => ?_) (fun cb => ?_)
          · refine V.aload_n cx dJ1_fixAfterInsertion_97 rfl 2 rfl ?_
            refine V.aload_n cx dJ1_fixAfterInsertion_98 rfl 2 rfl ?_
            refine V.callS (As := [.ref x_]) (rest := [.ref x_]) cx (m_parentOfS l hl g A E tm ka va lf_ rt_ pa_ co_ vl root_ n md h0 x_ hx_) q1054 q1055 (na := 1) rfl (by decide +kernel) (Nat.le_of_ble_eq_true rfl) (by decide) (by decide) (by decide) rfl dJ1_fixAfterInsertion_99 (fun _ _ _ hx => hx.elim) (fun v37 h38 hp => ?_)
            obtain ⟨rfl, rfl⟩ := hp
            show V g A κ _ _ 0 0 (tmO E tm ka va lf_ rt_ pa_ co_ vl root_ n md h0) 102 [(2, va_rf (rt_ gp)), (0, .ref tm), (1, .ref x_)] [va_rf (pa_ x_), .ref x_]
            refine V.toq (o' := (some p)) (by rw [hp]) ?_
            show V g A κ _ _ 0 0 (tmO E tm ka va lf_ rt_ pa_ co_ vl root_ n md h0) 102 [(2, va_rf (rt_ gp)), (0, .ref tm), (1, .ref x_)] [.ref p, .ref x_]
            refine V.callS (As := [.ref p]) (rest := [.ref x_]) cx (m_rightOfS l hl g A E tm ka va lf_ rt_ pa_ co_ vl root_ n md h0 p hpE) q1060 q1061 (na := 1) rfl (by decide +kernel) (Nat.le_of_ble_eq_true rfl) (by decide) (by decide) (by decide) rfl dJ1_fixAfterInsertion_102 (fun _ _ _ hx => hx.elim) (fun v39 h40 hp => ?_)
            obtain ⟨rfl, rfl⟩ := hp
            show V g A κ _ _ 0 0 (tmO E tm ka va lf_ rt_ pa_ co_ vl root_ n md h0) 105 [(2, va_rf (rt_ gp)), (0, .ref tm), (1, .ref x_)] [va_rf (rt_ p), .ref x_]
            show V g A κ _ _ 0 0 (tmO E tm ka va lf_ rt_ pa_ co_ vl root_ n md h0) 105 [(2, va_rf (rt_ gp)), (0, .ref tm), (1, .ref x_)] [va_rf (rt_ p), .ref x_]
            refine V.acmp_ne (rx := (some x_)) (ry := (rt_ p)) (tgt := 118) cx dJ1_fixAfterInsertion_105 (by decide) (fun cq => ?_) (fun cq => ?_)
            · refine V.aload_n cx dJ1_fixAfterInsertion_118 rfl 2 rfl ?_
              refine V.callS (As := [.ref x_]) (rest := []) cx (m_parentOfS l hl g A E tm ka va lf_ rt_ pa_ co_ vl root_ n md h0 x_ hx_) q1054 q1055 (na := 1) rfl (by decide +kernel) (Nat.le_of_ble_eq_true rfl) (by decide) (by decide) (by decide) rfl dJ1_fixAfterInsertion_119 (fun _ _ _ hx => hx.elim) (fun v41 h42 hp => ?_)
              obtain ⟨rfl, rfl⟩ := hp
              show V g A κ _ _ 0 0 (tmO E tm ka va lf_ rt_ pa_ co_ vl root_ n md h0) 122 [(2, va_rf (rt_ gp)), (0, .ref tm), (1, .ref x_)] [va_rf (pa_ x_)]
              refine V.toq (o' := (some p)) (by rw [hp]) ?_
              show V g A κ _ _ 0 0 (tmO E tm ka va lf_ rt_ pa_ co_ vl root_ n md h0) 122 [(2, va_rf (rt_ gp)), (0, .ref tm), (1, .ref x_)] [.ref p]
              refine V.iconst (v := (nI 1)) cx dJ1_fixAfterInsertion_122 (by decide) ?_
              refine V.toi (y := b2 true) (by decide) ?_
              refine V.callS (As := [.ref p, .int (b2 true)]) (rest := []) cx (m_setColorS l hl g A E tm ka va lf_ rt_ pa_ co_ vl root_ n md h0 p hpE true) q1066 q1067 (na := 2) rfl (by decide +kernel) (Nat.le_of_ble_eq_true rfl) (by decide) (by decide) (by decide) rfl dJ1_fixAfterInsertion_123 (fun _ _ _ hx => hx.elim) (fun v43 h44 hp => ?_)
              obtain ⟨rfl, rfl⟩ := hp
              show V g A κ _ _ 0 0 (tmO E tm ka va lf_ rt_ pa_ (va_up co_ p true) vl root_ n md h0) 126 [(2, va_rf (rt_ gp)), (0, .ref tm), (1, .ref x_)] []
              refine V.aload_n cx dJ1_fixAfterInsertion_126 rfl 2 rfl ?_
              refine V.callS (As := [.ref x_]) (rest := []) cx (m_parentOfS l hl g A E tm ka va lf_ rt_ pa_ (va_up co_ p true) vl root_ n md h0 x_ hx_) q1054 q1055 (na := 1) rfl (by decide +kernel) (Nat.le_of_ble_eq_true rfl) (by decide) (by decide) (by decide) rfl dJ1_fixAfterInsertion_127 (fun _ _ _ hx => hx.elim) (fun v45 h46 hp => ?_)
              obtain ⟨rfl, rfl⟩ := hp
              show V g A κ _ _ 0 0 (tmO E tm ka va lf_ rt_ pa_ (va_up co_ p true) vl root_ n md h0) 130 [(2, va_rf (rt_ gp)), (0, .ref tm), (1, .ref x_)] [va_rf (pa_ x_)]
              refine V.toq (o' := (some p)) (by rw [hp]) ?_
              show V g A κ _ _ 0 0 (tmO E tm ka va lf_ rt_ pa_ (va_up co_ p true) vl root_ n md h0) 130 [(2, va_rf (rt_ gp)), (0, .ref tm), (1, .ref x_)] [.ref p]
              refine V.callS (As := [.ref p]) (rest := []) cx (m_parentOfS l hl g A E tm ka va lf_ rt_ pa_ (va_up co_ p true) vl root_ n md h0 p hpE) q1054 q1055 (na := 1) rfl (by decide +kernel) (Nat.le_of_ble_eq_true rfl) (by decide) (by decide) (by decide) rfl dJ1_fixAfterInsertion_130 (fun _ _ _ hx => hx.elim) (fun v47 h48 hp => ?_)
              obtain ⟨rfl, rfl⟩ := hp
              show V g A κ _ _ 0 0 (tmO E tm ka va lf_ rt_ pa_ (va_up co_ p true) vl root_ n md h0) 133 [(2, va_rf (rt_ gp)), (0, .ref tm), (1, .ref x_)] [va_rf (pa_ p)]
              refine V.toq (o' := (some gp)) (by rw [hgp]) ?_
              show V g A κ _ _ 0 0 (tmO E tm ka va lf_ rt_ pa_ (va_up co_ p true) vl root_ n md h0) 133 [(2, va_rf (rt_ gp)), (0, .ref tm), (1, .ref x_)] [.ref gp]
              refine V.iconst (v := (nI 0)) cx dJ1_fixAfterInsertion_133 (by decide) ?_
              refine V.toi (y := b2 false) (by decide) ?_
              refine V.callS (As := [.ref gp, .int (b2 false)]) (rest := []) cx (m_setColorS l hl g A E tm ka va lf_ rt_ pa_ (va_up co_ p true) vl root_ n md h0 gp hgE false) q1066 q1067 (na := 2) rfl (by decide +kernel) (Nat.le_of_ble_eq_true rfl) (by decide) (by decide) (by decide) rfl dJ1_fixAfterInsertion_134 (fun _ _ _ hx => hx.elim) (fun v49 h50 hp => ?_)
              obtain ⟨rfl, rfl⟩ := hp
              show V g A κ _ _ 0 0 (tmO E tm ka va lf_ rt_ pa_ (va_up (va_up co_ p true) gp false) vl root_ n md h0) 137 [(2, va_rf (rt_ gp)), (0, .ref tm), (1, .ref x_)] []
              refine V.aload_n cx dJ1_fixAfterInsertion_137 rfl 1 rfl ?_
              refine V.aload_n cx dJ1_fixAfterInsertion_138 rfl 2 rfl ?_
              refine V.callS (As := [.ref x_]) (rest := [.ref tm]) cx (m_parentOfS l hl g A E tm ka va lf_ rt_ pa_ (va_up (va_up co_ p true) gp false) vl root_ n md h0 x_ hx_) q1054 q1055 (na := 1) rfl (by decide +kernel) (Nat.le_of_ble_eq_true rfl) (by decide) (by decide) (by decide) rfl dJ1_fixAfterInsertion_139 (fun _ _ _ hx => hx.elim) (fun v51 h52 hp => ?_)
              obtain ⟨rfl, rfl⟩ := hp
              show V g A κ _ _ 0 0 (tmO E tm ka va lf_ rt_ pa_ (va_up (va_up co_ p true) gp false) vl root_ n md h0) 142 [(2, va_rf (rt_ gp)), (0, .ref tm), (1, .ref x_)] [va_rf (pa_ x_), .ref tm]
              refine V.toq (o' := (some p)) (by rw [hp]) ?_
              show V g A κ _ _ 0 0 (tmO E tm ka va lf_ rt_ pa_ (va_up (va_up co_ p true) gp false) vl root_ n md h0) 142 [(2, va_rf (rt_ gp)), (0, .ref tm), (1, .ref x_)] [.ref p, .ref tm]
              refine V.callS (As := [.ref p]) (rest := [.ref tm]) cx (m_parentOfS l hl g A E tm ka va lf_ rt_ pa_ (va_up (va_up co_ p true) gp false) vl root_ n md h0 p hpE) q1054 q1055 (na := 1) rfl (by decide +kernel) (Nat.le_of_ble_eq_true rfl) (by decide) (by decide) (by decide) rfl dJ1_fixAfterInsertion_142 (fun _ _ _ hx => hx.elim) (fun v53 h54 hp => ?_)
              obtain ⟨rfl, rfl⟩ := hp
              show V g A κ _ _ 0 0 (tmO E tm ka va lf_ rt_ pa_ (va_up (va_up co_ p true) gp false) vl root_ n md h0) 145 [(2, va_rf (rt_ gp)), (0, .ref tm), (1, .ref x_)] [va_rf (pa_ p), .ref tm]
              refine V.toq (o' := (some gp)) (by rw [hgp]) ?_
              show V g A κ _ _ 0 0 (tmO E tm ka va lf_ rt_ pa_ (va_up (va_up co_ p true) gp false) vl root_ n md h0) 145 [(2, va_rf (rt_ gp)), (0, .ref tm), (1, .ref x_)] [.ref gp, .ref tm]
              refine V.callV (As := [.ref gp]) (rest := []) (C := "java/util/TreeMap") cx (m_rotR l hl g A E tm ka va lf_ rt_ pa_ (va_up (va_up co_ p true) gp false) vl root_ n md h0 ix lo_ hi_ hI_ ht gp p hgE hgs) rfl q1073 q1075 qs10 (Rv.of kJ1 (tm_t ht)) (na := 1) rfl (by decide +kernel) (Nat.le_of_ble_eq_true rfl) (by decide) (by decide) (by decide) rfl dJ1_fixAfterInsertion_145 (fun _ _ _ hx => hx.elim) (fun v55 h56 hp => ?_)
              obtain ⟨rfl, rfl⟩ := hp
              show V g A κ _ _ 0 0 (tmO E tm ka va (rrt rt_ lf_ pa_ gp p) (rlf rt_ pa_ gp p) (rpa rt_ pa_ gp p) (va_up (va_up co_ p true) gp false) vl (if pa_ gp = none then some p else root_) n md h0) 148 [(2, va_rf (rt_ gp)), (0, .ref tm), (1, .ref x_)] []
              obtain ⟨rt2, lf2, pa2, root2, lo2, hi2, hI2, e12, e22, e32, e42, e52, e62⟩ : ∃ (rt2 lf2 pa2 : Nat → Option Nat) (root2 : Option Nat) (lo2 hi2 : Nat → Nat), Inv E ix lo2 hi2 lf2 rt2 pa2 root2 ∧ (rlf rt_ pa_ gp p) = rt2 ∧ (rrt rt_ lf_ pa_ gp p) = lf2 ∧ (rpa rt_ pa_ gp p) = pa2 ∧ (if pa_ gp = none then some p else root_) = root2 ∧ (va_up lo_ gp (ix p + 1)) = lo2 ∧ (va_up hi_ p (hi_ gp)) = hi2 := ⟨_, _, _, _, _, _, Inv.rotR hI_ hgE hgs, rfl, rfl, rfl, rfl, rfl, rfl⟩
              refine V.hto (h' := (tmO E tm ka va lf2 rt2 pa2 (va_up (va_up co_ p true) gp false) vl root2 n md h0)) (by rw [e12, e22, e32, e42]) ?_
              show V g A κ _ _ 0 0 (tmO E tm ka va lf2 rt2 pa2 (va_up (va_up co_ p true) gp false) vl root2 n md h0) 148 [(2, va_rf (rt_ gp)), (0, .ref tm), (1, .ref x_)] []
              have hp2 : pa2 x_ = some p := by rw [← e32]; unfold rpa; have hnr := (show ¬ rt_ p = some x_ from fun e => cq e.symm); clear e12 e22 e32 e42; grind
              refine V.goto (tgt := 5) cx dJ1_fixAfterInsertion_148 (by decide) ?_
              refine V.aload_n cx dJ1_fixAfterInsertion_5 rfl 2 rfl ?_
              refine V.ifnull cx dJ1_fixAfterInsertion_6 ?_
              refine V.aload_n cx dJ1_fixAfterInsertion_9 rfl 2 rfl ?_
              refine V.aload_n cx dJ1_fixAfterInsertion_10 rfl 1 rfl ?_
              refine V.get cx kJ1 (tm_t ht) 3 (by decide) q158 rfl rfl dJ1_fixAfterInsertion_11 ?_
              show V g A κ _ _ 0 0 (tmO E tm ka va lf2 rt2 pa2 (va_up (va_up co_ p true) gp false) vl root2 n md h0) 14 [(2, va_rf (rt_ gp)), (0, .ref tm), (1, .ref x_)] [va_rf root2, .ref x_]
              refine V.acmp_eq (rx := (some x_)) (ry := root2) (tgt := 258) cx dJ1_fixAfterInsertion_14 (by decide) (fun cu => ?_) (fun cu => ?_)
              · rcases opt_c root2 with hrr | ⟨rr, hrr⟩
                · exact absurd (Inv.root_some hI2 hx_) (fun e => absurd (hrr.symm.trans e.choose_spec) (by intro e; cases e))
                · refine V.hto (h' := (tmO E tm ka va lf2 rt2 pa2 (va_up (va_up co_ p true) gp false) vl (some rr) n md h0)) (by rw [hrr]) ?_
                  show V g A κ _ _ 0 0 (tmO E tm ka va lf2 rt2 pa2 (va_up (va_up co_ p true) gp false) vl (some rr) n md h0) 258 [(2, va_rf (rt_ gp)), (0, .ref tm), (1, .ref x_)] []
                  refine V.aload_n cx dJ1_fixAfterInsertion_258 rfl 1 rfl ?_
                  refine V.get cx kJ1 (tm_t ht) 3 (by decide) q158 rfl rfl dJ1_fixAfterInsertion_259 ?_
                  show V g A κ _ _ 0 0 (tmO E tm ka va lf2 rt2 pa2 (va_up (va_up co_ p true) gp false) vl (some rr) n md h0) 262 [(2, va_rf (rt_ gp)), (0, .ref tm), (1, .ref x_)] [.ref rr]
                  refine V.iconst (v := (nI 1)) cx dJ1_fixAfterInsertion_262 (by decide) ?_
                  refine V.toi (y := b2 true) (by decide) ?_
                  refine V.put (ty := tyJ25 5) cx kJ25 (tm_e (hI2.2.2.2.2.2.2 rr hrr).1) 5 (by decide) rfl (tyJ25_ok 5 (by decide)) b2_narrow b2_fits (Nat.le_of_ble_eq_true rfl) q1032 rfl dJ1_fixAfterInsertion_263 ?_
                  refine V.hto (tm_co (b := true) (hI2.2.2.2.2.2.2 rr hrr).1) ?_
                  show V g A κ _ _ 0 0 (tmO E tm ka va lf2 rt2 pa2 (va_up (va_up (va_up co_ p true) gp false) rr true) vl (some rr) n md h0) 266 [(2, va_rf (rt_ gp)), (0, .ref tm), (1, .ref x_)] []
                  exact V.vreturn cx rfl ⟨rfl, _, _, _, _, _, _, _, hrr ▸ hI2, fun r hr => by cases hr; exact va_up_self _ _ _, rfl⟩ (by decide) (by decide) dJ1_fixAfterInsertion_266
              · refine V.aload_n cx dJ1_fixAfterInsertion_17 rfl 2 rfl ?_
                refine V.get cx kJ25 (tm_e hx_) 4 (by decide) q1030 rfl rfl dJ1_fixAfterInsertion_18 ?_
                refine V.toq (o' := (some p)) (by rw [hp2]) ?_
                show V g A κ _ _ 0 0 (tmO E tm ka va lf2 rt2 pa2 (va_up (va_up co_ p true) gp false) vl root2 n md h0) 21 [(2, va_rf (rt_ gp)), (0, .ref tm), (1, .ref x_)] [.ref p]
                refine V.get cx kJ25 (tm_e hpE) 5 (by decide) q1032 rfl rfl dJ1_fixAfterInsertion_21 ?_
                refine V.tob (b := true) (by rw [va_up_ne _ _ npg, va_up_self]) ?_
                show V g A κ _ _ 0 0 (tmO E tm ka va lf2 rt2 pa2 (va_up (va_up co_ p true) gp false) vl root2 n md h0) 24 [(2, va_rf (rt_ gp)), (0, .ref tm), (1, .ref x_)] [.int (b2 true)]
                refine V.bif_ne (tgt := 258) cx dJ1_fixAfterInsertion_24 (by decide) (fun cw => ?_) (fun cw => ?_)
                · rcases opt_c root2 with hrr | ⟨rr, hrr⟩
                  · exact absurd (Inv.root_some hI2 hx_) (fun e => absurd (hrr.symm.trans e.choose_spec) (by intro e; cases e))
                  · refine V.hto (h' := (tmO E tm ka va lf2 rt2 pa2 (va_up (va_up co_ p true) gp false) vl (some rr) n md h0)) (by rw [hrr]) ?_
                    show V g A κ _ _ 0 0 (tmO E tm ka va lf2 rt2 pa2 (va_up (va_up co_ p true) gp false) vl (some rr) n md h0) 258 [(2, va_rf (rt_ gp)), (0, .ref tm), (1, .ref x_)] []
                    refine V.aload_n cx dJ1_fixAfterInsertion_258 rfl 1 rfl ?_
                    refine V.get cx kJ1 (tm_t ht) 3 (by decide) q158 rfl rfl dJ1_fixAfterInsertion_259 ?_
                    show V g A κ _ _ 0 0 (tmO E tm ka va lf2 rt2 pa2 (va_up (va_up co_ p true) gp false) vl (some rr) n md h0) 262 [(2, va_rf (rt_ gp)), (0, .ref tm), (1, .ref x_)] [.ref rr]
                    refine V.iconst (v := (nI 1)) cx dJ1_fixAfterInsertion_262 (by decide) ?_
                    refine V.toi (y := b2 true) (by decide) ?_
                    refine V.put (ty := tyJ25 5) cx kJ25 (tm_e (hI2.2.2.2.2.2.2 rr hrr).1) 5 (by decide) rfl (tyJ25_ok 5 (by decide)) b2_narrow b2_fits (Nat.le_of_ble_eq_true rfl) q1032 rfl dJ1_fixAfterInsertion_263 ?_
                    refine V.hto (tm_co (b := true) (hI2.2.2.2.2.2.2 rr hrr).1) ?_
                    show V g A κ _ _ 0 0 (tmO E tm ka va lf2 rt2 pa2 (va_up (va_up (va_up co_ p true) gp false) rr true) vl (some rr) n md h0) 266 [(2, va_rf (rt_ gp)), (0, .ref tm), (1, .ref x_)] []
                    exact V.vreturn cx rfl ⟨rfl, _, _, _, _, _, _, _, hrr ▸ hI2, fun r hr => by cases hr; exact va_up_self _ _ _, rfl⟩ (by decide) (by decide) dJ1_fixAfterInsertion_266
                · exact absurd cw (by decide)
            · refine V.aload_n cx dJ1_fixAfterInsertion_108 rfl 2 rfl ?_
              refine V.callS (As := [.ref x_]) (rest := []) cx (m_parentOfS l hl g A E tm ka va lf_ rt_ pa_ co_ vl root_ n md h0 x_ hx_) q1054 q1055 (na := 1) rfl (by decide +kernel) (Nat.le_of_ble_eq_true rfl) (by decide) (by decide) (by decide) rfl dJ1_fixAfterInsertion_109 (fun _ _ _ hx => hx.elim) (fun v57 h58 hp => ?_)
              obtain ⟨rfl, rfl⟩ := hp
              show V g A κ _ _ 0 0 (tmO E tm ka va lf_ rt_ pa_ co_ vl root_ n md h0) 112 [(2, va_rf (rt_ gp)), (0, .ref tm), (1, .ref x_)] [va_rf (pa_ x_)]
              refine V.toq (o' := (some p)) (by rw [hp]) ?_
              show V g A κ _ _ 0 0 (tmO E tm ka va lf_ rt_ pa_ co_ vl root_ n md h0) 112 [(2, va_rf (rt_ gp)), (0, .ref tm), (1, .ref x_)] [.ref p]
              refine V.astore_n (lv' := [(1, .ref p), (2, va_rf (rt_ gp)), (0, .ref tm)]) cx dJ1_fixAfterInsertion_112 rfl (by decide) rfl ?_
              refine V.aload_n cx dJ1_fixAfterInsertion_113 rfl 2 rfl ?_
              refine V.aload_n cx dJ1_fixAfterInsertion_114 rfl 0 rfl ?_
              refine V.callV (As := [.ref p]) (rest := []) (C := "java/util/TreeMap") cx (m_rotL l hl g A E tm ka va lf_ rt_ pa_ co_ vl root_ n md h0 ix lo_ hi_ hI_ ht p x_ hpE cq.symm) rfl q1069 q1071 qs9 (Rv.of kJ1 (tm_t ht)) (na := 1) rfl (by decide +kernel) (Nat.le_of_ble_eq_true rfl) (by decide) (by decide) (by decide) rfl dJ1_fixAfterInsertion_115 (fun _ _ _ hx => hx.elim) (fun v59 h60 hp => ?_)
              obtain ⟨rfl, rfl⟩ := hp
              show V g A κ _ _ 0 0 (tmO E tm ka va (rlf lf_ pa_ p x_) (rrt lf_ rt_ pa_ p x_) (rpa lf_ pa_ p x_) co_ vl (if pa_ p = none then some x_ else root_) n md h0) 118 [(1, .ref p), (2, va_rf (rt_ gp)), (0, .ref tm)] []
              obtain ⟨lf1, rt1, pa1, root1, lo1, hi1, hI1, e11, e21, e31, e41, e51, e61⟩ : ∃ (lf1 rt1 pa1 : Nat → Option Nat) (root1 : Option Nat) (lo1 hi1 : Nat → Nat), Inv E ix lo1 hi1 lf1 rt1 pa1 root1 ∧ (rlf lf_ pa_ p x_) = lf1 ∧ (rrt lf_ rt_ pa_ p x_) = rt1 ∧ (rpa lf_ pa_ p x_) = pa1 ∧ (if pa_ p = none then some x_ else root_) = root1 ∧ (va_up lo_ x_ (lo_ p)) = lo1 ∧ (va_up hi_ p (ix x_)) = hi1 := ⟨_, _, _, _, _, _, Inv.rotL hI_ hpE cq.symm, rfl, rfl, rfl, rfl, rfl, rfl⟩
              refine V.hto (h' := (tmO E tm ka va lf1 rt1 pa1 co_ vl root1 n md h0)) (by rw [e11, e21, e31, e41]) ?_
              show V g A κ _ _ 0 0 (tmO E tm ka va lf1 rt1 pa1 co_ vl root1 n md h0) 118 [(1, .ref p), (2, va_rf (rt_ gp)), (0, .ref tm)] []
              have g1 : pa1 p = some x_ := by rw [← e31]; unfold rpa; rw [if_pos rfl]
              have g2 : pa1 x_ = some gp := by rw [← e31]; unfold rpa; rw [if_neg nxp, if_pos rfl]; exact hgp
              have g3 : lf1 gp = some x_ := by rw [← e11]; unfold rlf; rw [if_neg (Ne.symm nxg), if_pos ⟨hgp, hgs⟩]
              have g4 : ¬ rt1 x_ = some p := by rw [← e21]; unfold rrt; rw [if_neg nxp, if_neg (fun e => nxg (Option.some.inj (e.1.symm.trans hgp)))]; intro e; clear e11 e21 e31 e41; grind
              refine V.aload_n cx dJ1_fixAfterInsertion_118 rfl 0 rfl ?_
              refine V.callS (As := [.ref p]) (rest := []) cx (m_parentOfS l hl g A E tm ka va lf1 rt1 pa1 co_ vl root1 n md h0 p hpE) q1054 q1055 (na := 1) rfl (by decide +kernel) (Nat.le_of_ble_eq_true rfl) (by decide) (by decide) (by decide) rfl dJ1_fixAfterInsertion_119 (fun _ _ _ hx => hx.elim) (fun v61 h62 hp => ?_)
              obtain ⟨rfl, rfl⟩ := hp
              show V g A κ _ _ 0 0 (tmO E tm ka va lf1 rt1 pa1 co_ vl root1 n md h0) 122 [(1, .ref p), (2, va_rf (rt_ gp)), (0, .ref tm)] [va_rf (pa1 p)]
              refine V.toq (o' := (some x_)) (by rw [g1]) ?_
              show V g A κ _ _ 0 0 (tmO E tm ka va lf1 rt1 pa1 co_ vl root1 n md h0) 122 [(1, .ref p), (2, va_rf (rt_ gp)), (0, .ref tm)] [.ref x_]
              refine V.iconst (v := (nI 1)) cx dJ1_fixAfterInsertion_122 (by decide) ?_
              refine V.toi (y := b2 true) (by decide) ?_
              refine V.callS (As := [.ref x_, .int (b2 true)]) (rest := []) cx (m_setColorS l hl g A E tm ka va lf1 rt1 pa1 co_ vl root1 n md h0 x_ hx_ true) q1066 q1067 (na := 2) rfl (by decide +kernel) (Nat.le_of_ble_eq_true rfl) (by decide) (by decide) (by decide) rfl dJ1_fixAfterInsertion_123 (fun _ _ _ hx => hx.elim) (fun v63 h64 hp => ?_)
              obtain ⟨rfl, rfl⟩ := hp
              show V g A κ _ _ 0 0 (tmO E tm ka va lf1 rt1 pa1 (va_up co_ x_ true) vl root1 n md h0) 126 [(1, .ref p), (2, va_rf (rt_ gp)), (0, .ref tm)] []
              refine V.aload_n cx dJ1_fixAfterInsertion_126 rfl 0 rfl ?_
              refine V.callS (As := [.ref p]) (rest := []) cx (m_parentOfS l hl g A E tm ka va lf1 rt1 pa1 (va_up co_ x_ true) vl root1 n md h0 p hpE) q1054 q1055 (na := 1) rfl (by decide +kernel) (Nat.le_of_ble_eq_true rfl) (by decide) (by decide) (by decide) rfl dJ1_fixAfterInsertion_127 (fun _ _ _ hx => hx.elim) (fun v65 h66 hp => ?_)
              obtain ⟨rfl, rfl⟩ := hp
              show V g A κ _ _ 0 0 (tmO E tm ka va lf1 rt1 pa1 (va_up co_ x_ true) vl root1 n md h0) 130 [(1, .ref p), (2, va_rf (rt_ gp)), (0, .ref tm)] [va_rf (pa1 p)]
              refine V.toq (o' := (some x_)) (by rw [g1]) ?_
              show V g A κ _ _ 0 0 (tmO E tm ka va lf1 rt1 pa1 (va_up co_ x_ true) vl root1 n md h0) 130 [(1, .ref p), (2, va_rf (rt_ gp)), (0, .ref tm)] [.ref x_]
              refine V.callS (As := [.ref x_]) (rest := []) cx (m_parentOfS l hl g A E tm ka va lf1 rt1 pa1 (va_up co_ x_ true) vl root1 n md h0 x_ hx_) q1054 q1055 (na := 1) rfl (by decide +kernel) (Nat.le_of_ble_eq_true rfl) (by decide) (by decide) (by decide) rfl dJ1_fixAfterInsertion_130 (fun _ _ _ hx => hx.elim) (fun v67 h68 hp => ?_)
              obtain ⟨rfl, rfl⟩ := hp
              show V g A κ _ _ 0 0 (tmO E tm ka va lf1 rt1 pa1 (va_up co_ x_ true) vl root1 n md h0) 133 [(1, .ref p), (2, va_rf (rt_ gp)), (0, .ref tm)] [va_rf (pa1 x_)]
              refine V.toq (o' := (some gp)) (by rw [g2]) ?_
              show V g A κ _ _ 0 0 (tmO E tm ka va lf1 rt1 pa1 (va_up co_ x_ true) vl root1 n md h0) 133 [(1, .ref p), (2, va_rf (rt_ gp)), (0, .ref tm)] [.ref gp]
              refine V.iconst (v := (nI 0)) cx dJ1_fixAfterInsertion_133 (by decide) ?_
              refine V.toi (y := b2 false) (by decide) ?_
              refine V.callS (As := [.ref gp, .int (b2 false)]) (rest := []) cx (m_setColorS l hl g A E tm ka va lf1 rt1 pa1 (va_up co_ x_ true) vl root1 n md h0 gp hgE false) q1066 q1067 (na := 2) rfl (by decide +kernel) (Nat.le_of_ble_eq_true rfl) (by decide) (by decide) (by decide) rfl dJ1_fixAfterInsertion_134 (fun _ _ _ hx => hx.elim) (fun v69 h70 hp => ?_)
              obtain ⟨rfl, rfl⟩ := hp
              show V g A κ _ _ 0 0 (tmO E tm ka va lf1 rt1 pa1 (va_up (va_up co_ x_ true) gp false) vl root1 n md h0) 137 [(1, .ref p), (2, va_rf (rt_ gp)), (0, .ref tm)] []
              refine V.aload_n cx dJ1_fixAfterInsertion_137 rfl 2 rfl ?_
              refine V.aload_n cx dJ1_fixAfterInsertion_138 rfl 0 rfl ?_
              refine V.callS (As := [.ref p]) (rest := [.ref tm]) cx (m_parentOfS l hl g A E tm ka va lf1 rt1 pa1 (va_up (va_up co_ x_ true) gp false) vl root1 n md h0 p hpE) q1054 q1055 (na := 1) rfl (by decide +kernel) (Nat.le_of_ble_eq_true rfl) (by decide) (by decide) (by decide) rfl dJ1_fixAfterInsertion_139 (fun _ _ _ hx => hx.elim) (fun v71 h72 hp => ?_)
              obtain ⟨rfl, rfl⟩ := hp
              show V g A κ _ _ 0 0 (tmO E tm ka va lf1 rt1 pa1 (va_up (va_up co_ x_ true) gp false) vl root1 n md h0) 142 [(1, .ref p), (2, va_rf (rt_ gp)), (0, .ref tm)] [va_rf (pa1 p), .ref tm]
              refine V.toq (o' := (some x_)) (by rw [g1]) ?_
              show V g A κ _ _ 0 0 (tmO E tm ka va lf1 rt1 pa1 (va_up (va_up co_ x_ true) gp false) vl root1 n md h0) 142 [(1, .ref p), (2, va_rf (rt_ gp)), (0, .ref tm)] [.ref x_, .ref tm]
              refine V.callS (As := [.ref x_]) (rest := [.ref tm]) cx (m_parentOfS l hl g A E tm ka va lf1 rt1 pa1 (va_up (va_up co_ x_ true) gp false) vl root1 n md h0 x_ hx_) q1054 q1055 (na := 1) rfl (by decide +kernel) (Nat.le_of_ble_eq_true rfl) (by decide) (by decide) (by decide) rfl dJ1_fixAfterInsertion_142 (fun _ _ _ hx => hx.elim) (fun v73 h74 hp => ?_)
              obtain ⟨rfl, rfl⟩ := hp
              show V g A κ _ _ 0 0 (tmO E tm ka va lf1 rt1 pa1 (va_up (va_up co_ x_ true) gp false) vl root1 n md h0) 145 [(1, .ref p), (2, va_rf (rt_ gp)), (0, .ref tm)] [va_rf (pa1 x_), .ref tm]
              refine V.toq (o' := (some gp)) (by rw [g2]) ?_
              show V g A κ _ _ 0 0 (tmO E tm ka va lf1 rt1 pa1 (va_up (va_up co_ x_ true) gp false) vl root1 n md h0) 145 [(1, .ref p), (2, va_rf (rt_ gp)), (0, .ref tm)] [.ref gp, .ref tm]
              refine V.callV (As := [.ref gp]) (rest := []) (C := "java/util/TreeMap") cx (m_rotR l hl g A E tm ka va lf1 rt1 pa1 (va_up (va_up co_ x_ true) gp false) vl root1 n md h0 ix lo1 hi1 hI1 ht gp x_ hgE g3) rfl q1073 q1075 qs10 (Rv.of kJ1 (tm_t ht)) (na := 1) rfl (by decide +kernel) (Nat.le_of_ble_eq_true rfl) (by decide) (by decide) (by decide) rfl dJ1_fixAfterInsertion_145 (fun _ _ _ hx => hx.elim) (fun v75 h76 hp => ?_)
              obtain ⟨rfl, rfl⟩ := hp
              show V g A κ _ _ 0 0 (tmO E tm ka va (rrt rt1 lf1 pa1 gp x_) (rlf rt1 pa1 gp x_) (rpa rt1 pa1 gp x_) (va_up (va_up co_ x_ true) gp false) vl (if pa1 gp = none then some x_ else root1) n md h0) 148 [(1, .ref p), (2, va_rf (rt_ gp)), (0, .ref tm)] []
              obtain ⟨rt2, lf2, pa2, root2, lo2, hi2, hI2, e12, e22, e32, e42, e52, e62⟩ : ∃ (rt2 lf2 pa2 : Nat → Option Nat) (root2 : Option Nat) (lo2 hi2 : Nat → Nat), Inv E ix lo2 hi2 lf2 rt2 pa2 root2 ∧ (rlf rt1 pa1 gp x_) = rt2 ∧ (rrt rt1 lf1 pa1 gp x_) = lf2 ∧ (rpa rt1 pa1 gp x_) = pa2 ∧ (if pa1 gp = none then some x_ else root1) = root2 ∧ (va_up lo1 gp (ix x_ + 1)) = lo2 ∧ (va_up hi1 x_ (hi1 gp)) = hi2 := ⟨_, _, _, _, _, _, Inv.rotR hI1 hgE g3, rfl, rfl, rfl, rfl, rfl, rfl⟩
              refine V.hto (h' := (tmO E tm ka va lf2 rt2 pa2 (va_up (va_up co_ x_ true) gp false) vl root2 n md h0)) (by rw [e12, e22, e32, e42]) ?_
              show V g A κ _ _ 0 0 (tmO E tm ka va lf2 rt2 pa2 (va_up (va_up co_ x_ true) gp false) vl root2 n md h0) 148 [(1, .ref p), (2, va_rf (rt_ gp)), (0, .ref tm)] []
              have hp2 : pa2 p = some x_ := by rw [← e32]; unfold rpa; have hnr := g4; clear e12 e22 e32 e42; grind
              refine V.goto (tgt := 5) cx dJ1_fixAfterInsertion_148 (by decide) ?_
              refine V.aload_n cx dJ1_fixAfterInsertion_5 rfl 0 rfl ?_
              refine V.ifnull cx dJ1_fixAfterInsertion_6 ?_
              refine V.aload_n cx dJ1_fixAfterInsertion_9 rfl 0 rfl ?_
              refine V.aload_n cx dJ1_fixAfterInsertion_10 rfl 2 rfl ?_
              refine V.get cx kJ1 (tm_t ht) 3 (by decide) q158 rfl rfl dJ1_fixAfterInsertion_11 ?_
              show V g A κ _ _ 0 0 (tmO E tm ka va lf2 rt2 pa2 (va_up (va_up co_ x_ true) gp false) vl root2 n md h0) 14 [(1, .ref p), (2, va_rf (rt_ gp)), (0, .ref tm)] [va_rf root2, .ref p]
              refine V.acmp_eq (rx := (some p)) (ry := root2) (tgt := 258) cx dJ1_fixAfterInsertion_14 (by decide) (fun cu => ?_) (fun cu => ?_)
              · rcases opt_c root2 with hrr | ⟨rr, hrr⟩
                · exact absurd (Inv.root_some hI2 hx_) (fun e => absurd (hrr.symm.trans e.choose_spec) (by intro e; cases e))
                · refine V.hto (h' := (tmO E tm ka va lf2 rt2 pa2 (va_up (va_up co_ x_ true) gp false) vl (some rr) n md h0)) (by rw [hrr]) ?_
                  show V g A κ _ _ 0 0 (tmO E tm ka va lf2 rt2 pa2 (va_up (va_up co_ x_ true) gp false) vl (some rr) n md h0) 258 [(1, .ref p), (2, va_rf (rt_ gp)), (0, .ref tm)] []
                  refine V.aload_n cx dJ1_fixAfterInsertion_258 rfl 2 rfl ?_
                  refine V.get cx kJ1 (tm_t ht) 3 (by decide) q158 rfl rfl dJ1_fixAfterInsertion_259 ?_
                  show V g A κ _ _ 0 0 (tmO E tm ka va lf2 rt2 pa2 (va_up (va_up co_ x_ true) gp false) vl (some rr) n md h0) 262 [(1, .ref p), (2, va_rf (rt_ gp)), (0, .ref tm)] [.ref rr]
                  refine V.iconst (v := (nI 1)) cx dJ1_fixAfterInsertion_262 (by decide) ?_
                  refine V.toi (y := b2 true) (by decide) ?_
                  refine V.put (ty := tyJ25 5) cx kJ25 (tm_e (hI2.2.2.2.2.2.2 rr hrr).1) 5 (by decide) rfl (tyJ25_ok 5 (by decide)) b2_narrow b2_fits (Nat.le_of_ble_eq_true rfl) q1032 rfl dJ1_fixAfterInsertion_263 ?_
                  refine V.hto (tm_co (b := true) (hI2.2.2.2.2.2.2 rr hrr).1) ?_
                  show V g A κ _ _ 0 0 (tmO E tm ka va lf2 rt2 pa2 (va_up (va_up (va_up co_ x_ true) gp false) rr true) vl (some rr) n md h0) 266 [(1, .ref p), (2, va_rf (rt_ gp)), (0, .ref tm)] []
                  exact V.vreturn cx rfl ⟨rfl, _, _, _, _, _, _, _, hrr ▸ hI2, fun r hr => by cases hr; exact va_up_self _ _ _, rfl⟩ (by decide) (by decide) dJ1_fixAfterInsertion_266
              · refine V.aload_n cx dJ1_fixAfterInsertion_17 rfl 0 rfl ?_
                refine V.get cx kJ25 (tm_e hpE) 4 (by decide) q1030 rfl rfl dJ1_fixAfterInsertion_18 ?_
                refine V.toq (o' := (some x_)) (by rw [hp2]) ?_
                show V g A κ _ _ 0 0 (tmO E tm ka va lf2 rt2 pa2 (va_up (va_up co_ x_ true) gp false) vl root2 n md h0) 21 [(1, .ref p), (2, va_rf (rt_ gp)), (0, .ref tm)] [.ref x_]
                refine V.get cx kJ25 (tm_e hx_) 5 (by decide) q1032 rfl rfl dJ1_fixAfterInsertion_21 ?_
                refine V.tob (b := true) (by rw [va_up_ne _ _ nxg, va_up_self]) ?_
                show V g A κ _ _ 0 0 (tmO E tm ka va lf2 rt2 pa2 (va_up (va_up co_ x_ true) gp false) vl root2 n md h0) 24 [(1, .ref p), (2, va_rf (rt_ gp)), (0, .ref tm)] [.int (b2 true)]
                refine V.bif_ne (tgt := 258) cx dJ1_fixAfterInsertion_24 (by decide) (fun cw => ?_) (fun cw => ?_)
                · rcases opt_c root2 with hrr | ⟨rr, hrr⟩
                  · exact absurd (Inv.root_some hI2 hx_) (fun e => absurd (hrr.symm.trans e.choose_spec) (by intro e; cases e))
                  · refine V.hto (h' := (tmO E tm ka va lf2 rt2 pa2 (va_up (va_up co_ x_ true) gp false) vl (some rr) n md h0)) (by rw [hrr]) ?_
                    show V g A κ _ _ 0 0 (tmO E tm ka va lf2 rt2 pa2 (va_up (va_up co_ x_ true) gp false) vl (some rr) n md h0) 258 [(1, .ref p), (2, va_rf (rt_ gp)), (0, .ref tm)] []
                    refine V.aload_n cx dJ1_fixAfterInsertion_258 rfl 2 rfl ?_
                    refine V.get cx kJ1 (tm_t ht) 3 (by decide) q158 rfl rfl dJ1_fixAfterInsertion_259 ?_
                    show V g A κ _ _ 0 0 (tmO E tm ka va lf2 rt2 pa2 (va_up (va_up co_ x_ true) gp false) vl (some rr) n md h0) 262 [(1, .ref p), (2, va_rf (rt_ gp)), (0, .ref tm)] [.ref rr]
                    refine V.iconst (v := (nI 1)) cx dJ1_fixAfterInsertion_262 (by decide) ?_
                    refine V.toi (y := b2 true) (by decide) ?_
                    refine V.put (ty := tyJ25 5) cx kJ25 (tm_e (hI2.2.2.2.2.2.2 rr hrr).1) 5 (by decide) rfl (tyJ25_ok 5 (by decide)) b2_narrow b2_fits (Nat.le_of_ble_eq_true rfl) q1032 rfl dJ1_fixAfterInsertion_263 ?_
                    refine V.hto (tm_co (b := true) (hI2.2.2.2.2.2.2 rr hrr).1) ?_
                    show V g A κ _ _ 0 0 (tmO E tm ka va lf2 rt2 pa2 (va_up (va_up (va_up co_ x_ true) gp false) rr true) vl (some rr) n md h0) 266 [(1, .ref p), (2, va_rf (rt_ gp)), (0, .ref tm)] []
                    exact V.vreturn cx rfl ⟨rfl, _, _, _, _, _, _, _, hrr ▸ hI2, fun r hr => by cases hr; exact va_up_self _ _ _, rfl⟩ (by decide) (by decide) dJ1_fixAfterInsertion_266
                · exact absurd cw (by decide)
          · exact absurd cb (by decide)
