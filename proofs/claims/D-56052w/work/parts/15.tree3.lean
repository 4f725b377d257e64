/-! JDK: TreeMap, putting -/
set_option maxRecDepth 100000
theorem up_up {h : AHT} {a : Nat} {c c' : va_E} : up (up h a c) a c' = up h a c' := by
  funext x; unfold up; by_cases e : x = a <;> simp [e]
section TN
variable {E : List Nat} {tm : Nat} {ka va : Nat → Nat} {lf rt pa : Nat → Option Nat} {co : Nat → Bool} {vl root : Option Nat} {n : Nat} {md : Int32} {h0 : AHT} {q : Nat}
theorem tm_out (h : tmO E tm ka va lf rt pa co vl root n md h0 q = none) : q ∉ E ∧ q ≠ tm ∧ h0 q = none := by
  unfold tmO at h
  by_cases h1 : q ∈ E
  · rw [if_pos h1] at h; cases h
  · rw [if_neg h1] at h
    by_cases h2 : q = tm
    · rw [if_pos h2] at h; cases h
    · rw [if_neg h2] at h; exact ⟨h1, h2, h⟩
theorem tm_new {kr vr : Nat} {o : Option Nat} (hq : tmO E tm ka va lf rt pa co vl root n md h0 q = none) : up (tmO E tm ka va lf rt pa co vl root n md h0) q (ob 19 [.ref kr, .ref vr, va_rf none, va_rf none, va_rf o, .int (b2 true)]) = tmO (E ++ [q]) tm (va_up ka q kr) (va_up va q vr) (va_up lf q none) (va_up rt q none) (va_up pa q o) (va_up co q true) vl root n md h0 := by
  obtain ⟨h1, h2, h3⟩ := tm_out hq
  funext x; unfold up tmO va_up
  by_cases h : x = q
  · subst h; simp
  · simp [h]
end TN
set_option maxHeartbeats 4000000 in
theorem Inv.app {E : List Nat} {ix lo hi : Nat → Nat} {lf rt pa : Nat → Option Nat} {root : Option Nat} (h : Inv E ix lo hi lf rt pa root) {p q : Nat} (hp : p ∈ E) (hr : rt p = none) (hh : hi p = E.length) (hq : q ∉ E) :
    Inv (E ++ [q]) (va_up ix q E.length) (va_up lo q E.length) (fun e => if e = q ∨ hi e = E.length then E.length + 1 else hi e) (va_up lf q none) (va_up (va_up rt q none) p (some q)) (va_up pa q (some p)) root := by
  have hinj := fun a b => @Inv.inj E ix lo hi lf rt pa root h a b
  obtain ⟨h0, h1, h2, h3, h4, h5⟩ := h
  have hm : ∀ e, e ∈ E ++ [q] ↔ e ∈ E ∨ e = q := by intro e; simp
  have hg : ∀ e, e ∈ E → (E ++ [q])[ix e]? = some e := fun e he => by rw [List.getElem?_append_left (by have := h1 e he; omega)]; exact h0 e he
  have hg2 : (E ++ [q])[E.length]? = some q := by simp
  have hlen : (E ++ [q]).length = E.length + 1 := by simp
  have hpx : ix p + 1 = E.length := by have := (h3 p hp).1 hr; omega
  unfold Inv va_up
  simp only [hlen, hm]
  refine ⟨?_, ?_, ?_, ?_, ?_, ?_⟩
  · intro e he; by_cases z : e = q
    · simp [z]
    · rw [if_neg z]; exact hg e (he.resolve_right z)
  · grind
  · grind
  · grind
  · grind
  · grind
theorem Inv.one (q : Nat) (lf rt pa : Nat → Option Nat) : Inv [q] (fun _ => 0) (fun _ => 0) (fun _ => 1) (va_up lf q none) (va_up rt q none) (va_up pa q none) (some q) := by
  unfold Inv va_up
  refine ⟨?_, ?_, ?_, ?_, ?_, ?_⟩ <;> simp
theorem cmpI_1 {x y : Int32} (h : y < x) : cmpI x y = 1 := by
  unfold cmpI; rw [if_pos (Int32.le_of_lt h), if_neg (fun e => by rw [e] at h; exact Int32.lt_irrefl h)]

abbrev cJ25_init : ByteArray := prog_69_method_1_code
def yJ25_init : MethodName := ⟨RJ25, "<init>", "(Ljava/lang/Object;Ljava/lang/Object;Ljava/util/TreeMap$Entry;)V"⟩
def dkwJ25_init_1 : List UInt8 := [177]
abbrev dktJ25_init_1 : List UInt8 := dkwJ25_init_1 ++ []
def dkwJ25_init_0 : List UInt8 := [42, 183, 0, 3, 42, 4, 181, 0, 9, 42, 43, 181, 0, 15, 42, 44, 181, 0, 19, 42, 45, 181, 0, 22]
abbrev dktJ25_init_0 : List UInt8 := dkwJ25_init_0 ++ dktJ25_init_1
theorem dksJ25_init_0 : cJ25_init.data.toList.drop 0 = dktJ25_init_0 := by decide +kernel
theorem dksJ25_init_1 : cJ25_init.data.toList.drop 24 = dktJ25_init_1 := dk_seg dksJ25_init_0 24 rfl rfl
theorem dJ25_init_0 : decode cJ25_init 0 = .ok (.aload_n 0, 1) := dk_42 (dk_at dksJ25_init_0 0 rfl rfl)
theorem dJ25_init_1 : decode cJ25_init 1 = .ok (.invokespecial 3, 3) := dk_183 0 3 (dk_at dksJ25_init_0 1 rfl rfl)
theorem dJ25_init_4 : decode cJ25_init 4 = .ok (.aload_n 0, 1) := dk_42 (dk_at dksJ25_init_0 4 rfl rfl)
theorem dJ25_init_5 : decode cJ25_init 5 = .ok (.iconst 1, 1) := dk_4 (dk_at dksJ25_init_0 5 rfl rfl)
theorem dJ25_init_6 : decode cJ25_init 6 = .ok (.putfield 9, 3) := dk_181 0 9 (dk_at dksJ25_init_0 6 rfl rfl)
theorem dJ25_init_9 : decode cJ25_init 9 = .ok (.aload_n 0, 1) := dk_42 (dk_at dksJ25_init_0 9 rfl rfl)
theorem dJ25_init_10 : decode cJ25_init 10 = .ok (.aload_n 1, 1) := dk_43 (dk_at dksJ25_init_0 10 rfl rfl)
theorem dJ25_init_11 : decode cJ25_init 11 = .ok (.putfield 15, 3) := dk_181 0 15 (dk_at dksJ25_init_0 11 rfl rfl)
theorem dJ25_init_14 : decode cJ25_init 14 = .ok (.aload_n 0, 1) := dk_42 (dk_at dksJ25_init_0 14 rfl rfl)
theorem dJ25_init_15 : decode cJ25_init 15 = .ok (.aload_n 2, 1) := dk_44 (dk_at dksJ25_init_0 15 rfl rfl)
theorem dJ25_init_16 : decode cJ25_init 16 = .ok (.putfield 19, 3) := dk_181 0 19 (dk_at dksJ25_init_0 16 rfl rfl)
theorem dJ25_init_19 : decode cJ25_init 19 = .ok (.aload_n 0, 1) := dk_42 (dk_at dksJ25_init_0 19 rfl rfl)
theorem dJ25_init_20 : decode cJ25_init 20 = .ok (.aload_n 3, 1) := dk_45 (dk_at dksJ25_init_0 20 rfl rfl)
theorem dJ25_init_21 : decode cJ25_init 21 = .ok (.putfield 22, 3) := dk_181 0 22 (dk_at dksJ25_init_0 21 rfl rfl)
theorem dJ25_init_24 : decode cJ25_init 24 = .ok (.return_, 1) := dk_177 (dk_at dksJ25_init_1 0 rfl rfl)
set_option maxHeartbeats 4000000 in
theorem m_entInitN (l : Launch) (hl : l.stackTraces = false) (g : GE) (A : Nat → Prop) (h : AHT) (a k v : Nat) (ha : h a = some (ob 19 [.null, .null, .null, .null, .null, .int 0])) : U_ l g A yJ25_init 2 0 0 [.ref a, .ref k, .ref v, .null] h (fun v9 h' => v9 = none ∧ up h a (ob 19 [.ref k, .ref v, va_rf none, va_rf none, va_rf none, .int (b2 true)]) = h') noX := by
  refine U_.of (own := RJ25) (cc := cJ25_init) (L := 4) (ret := (none)) hl rfl (plainFor_of_name (by decide)) ⟨by decide, by decide⟩ q1020 q114 (by decide) (fun _ => rfl) (Nat.le_of_ble_eq_true rfl) (fun κ cx => ?_)
  show V g A κ _ _ 0 0 h 0 [(0, .ref a), (1, .ref k), (2, .ref v), (3, .null)] []
  refine V.aload_n cx dJ25_init_0 rfl 0 rfl ?_
  refine V.objInit cx q1021 q140 q141 (by decide) (Nat.le_of_ble_eq_true rfl) dJ25_init_1 ?_
  refine V.aload_n cx dJ25_init_4 rfl 0 rfl ?_
  refine V.iconst (v := (nI 1)) cx dJ25_init_5 (by decide) ?_
  refine V.toi (y := b2 true) (by decide) ?_
  refine V.put (ty := tyJ25 5) cx kJ25 ha 5 (by decide) rfl (tyJ25_ok 5 (by decide)) b2_narrow b2_fits (Nat.le_of_ble_eq_true rfl) q1031 rfl dJ25_init_6 ?_
  show V g A κ _ _ 0 0 (up h a (ob 19 [.null, .null, .null, .null, .null, .int (b2 true)])) 9 [(0, .ref a), (1, .ref k), (2, .ref v), (3, .null)] []
  refine V.aload_n cx dJ25_init_9 rfl 0 rfl ?_
  refine V.aload_n cx dJ25_init_10 rfl 1 rfl ?_
  refine V.put (ty := tyJ25 0) cx kJ25 up_s 0 (by decide) rfl (tyJ25_ok 0 (by decide)) rfl rfl (Nat.le_of_ble_eq_true rfl) q1022 rfl dJ25_init_11 ?_
  show V g A κ _ _ 0 0 (up (up h a (ob 19 [.null, .null, .null, .null, .null, .int (b2 true)])) a (ob 19 [.ref k, .null, .null, .null, .null, .int (b2 true)])) 14 [(0, .ref a), (1, .ref k), (2, .ref v), (3, .null)] []
  refine V.aload_n cx dJ25_init_14 rfl 0 rfl ?_
  refine V.aload_n cx dJ25_init_15 rfl 2 rfl ?_
  refine V.put (ty := tyJ25 1) cx kJ25 up_s 1 (by decide) rfl (tyJ25_ok 1 (by decide)) rfl rfl (Nat.le_of_ble_eq_true rfl) q1024 rfl dJ25_init_16 ?_
  show V g A κ _ _ 0 0 (up (up (up h a (ob 19 [.null, .null, .null, .null, .null, .int (b2 true)])) a (ob 19 [.ref k, .null, .null, .null, .null, .int (b2 true)])) a (ob 19 [.ref k, .ref v, .null, .null, .null, .int (b2 true)])) 19 [(0, .ref a), (1, .ref k), (2, .ref v), (3, .null)] []
  refine V.aload_n cx dJ25_init_19 rfl 0 rfl ?_
  refine V.aload_nN cx dJ25_init_20 rfl 3 rfl ?_
  refine V.put (ty := tyJ25 4) cx kJ25 up_s 4 (by decide) rfl (tyJ25_ok 4 (by decide)) rfl rfl (Nat.le_of_ble_eq_true rfl) q1029 rfl dJ25_init_21 ?_
  show V g A κ _ _ 0 0 (up (up (up (up h a (ob 19 [.null, .null, .null, .null, .null, .int (b2 true)])) a (ob 19 [.ref k, .null, .null, .null, .null, .int (b2 true)])) a (ob 19 [.ref k, .ref v, .null, .null, .null, .int (b2 true)])) a (ob 19 [.ref k, .ref v, .null, .null, .null, .int (b2 true)])) 24 [(0, .ref a), (1, .ref k), (2, .ref v), (3, .null)] []
  exact V.vreturn cx rfl ⟨rfl, by simp only [up_up]; rfl⟩ (by decide) (by decide) dJ25_init_24
set_option maxHeartbeats 4000000 in
theorem m_entInitS (l : Launch) (hl : l.stackTraces = false) (g : GE) (A : Nat → Prop) (h : AHT) (a k v : Nat) (o : Nat) (ha : h a = some (ob 19 [.null, .null, .null, .null, .null, .int 0])) : U_ l g A yJ25_init 2 0 0 [.ref a, .ref k, .ref v, .ref o] h (fun v9 h' => v9 = none ∧ up h a (ob 19 [.ref k, .ref v, va_rf none, va_rf none, va_rf (some o), .int (b2 true)]) = h') noX := by
  refine U_.of (own := RJ25) (cc := cJ25_init) (L := 4) (ret := (none)) hl rfl (plainFor_of_name (by decide)) ⟨by decide, by decide⟩ q1020 q114 (by decide) (fun _ => rfl) (Nat.le_of_ble_eq_true rfl) (fun κ cx => ?_)
  show V g A κ _ _ 0 0 h 0 [(0, .ref a), (1, .ref k), (2, .ref v), (3, .ref o)] []
  refine V.aload_n cx dJ25_init_0 rfl 0 rfl ?_
  refine V.objInit cx q1021 q140 q141 (by decide) (Nat.le_of_ble_eq_true rfl) dJ25_init_1 ?_
  refine V.aload_n cx dJ25_init_4 rfl 0 rfl ?_
  refine V.iconst (v := (nI 1)) cx dJ25_init_5 (by decide) ?_
  refine V.toi (y := b2 true) (by decide) ?_
  refine V.put (ty := tyJ25 5) cx kJ25 ha 5 (by decide) rfl (tyJ25_ok 5 (by decide)) b2_narrow b2_fits (Nat.le_of_ble_eq_true rfl) q1031 rfl dJ25_init_6 ?_
  show V g A κ _ _ 0 0 (up h a (ob 19 [.null, .null, .null, .null, .null, .int (b2 true)])) 9 [(0, .ref a), (1, .ref k), (2, .ref v), (3, .ref o)] []
  refine V.aload_n cx dJ25_init_9 rfl 0 rfl ?_
  refine V.aload_n cx dJ25_init_10 rfl 1 rfl ?_
  refine V.put (ty := tyJ25 0) cx kJ25 up_s 0 (by decide) rfl (tyJ25_ok 0 (by decide)) rfl rfl (Nat.le_of_ble_eq_true rfl) q1022 rfl dJ25_init_11 ?_
  show V g A κ _ _ 0 0 (up (up h a (ob 19 [.null, .null, .null, .null, .null, .int (b2 true)])) a (ob 19 [.ref k, .null, .null, .null, .null, .int (b2 true)])) 14 [(0, .ref a), (1, .ref k), (2, .ref v), (3, .ref o)] []
  refine V.aload_n cx dJ25_init_14 rfl 0 rfl ?_
  refine V.aload_n cx dJ25_init_15 rfl 2 rfl ?_
  refine V.put (ty := tyJ25 1) cx kJ25 up_s 1 (by decide) rfl (tyJ25_ok 1 (by decide)) rfl rfl (Nat.le_of_ble_eq_true rfl) q1024 rfl dJ25_init_16 ?_
  show V g A κ _ _ 0 0 (up (up (up h a (ob 19 [.null, .null, .null, .null, .null, .int (b2 true)])) a (ob 19 [.ref k, .null, .null, .null, .null, .int (b2 true)])) a (ob 19 [.ref k, .ref v, .null, .null, .null, .int (b2 true)])) 19 [(0, .ref a), (1, .ref k), (2, .ref v), (3, .ref o)] []
  refine V.aload_n cx dJ25_init_19 rfl 0 rfl ?_
  refine V.aload_n cx dJ25_init_20 rfl 3 rfl ?_
  refine V.put (ty := tyJ25 4) cx kJ25 up_s 4 (by decide) rfl (tyJ25_ok 4 (by decide)) rfl rfl (Nat.le_of_ble_eq_true rfl) q1029 rfl dJ25_init_21 ?_
  show V g A κ _ _ 0 0 (up (up (up (up h a (ob 19 [.null, .null, .null, .null, .null, .int (b2 true)])) a (ob 19 [.ref k, .null, .null, .null, .null, .int (b2 true)])) a (ob 19 [.ref k, .ref v, .null, .null, .null, .int (b2 true)])) a (ob 19 [.ref k, .ref v, .null, .null, .ref o, .int (b2 true)])) 24 [(0, .ref a), (1, .ref k), (2, .ref v), (3, .ref o)] []
  exact V.vreturn cx rfl ⟨rfl, by simp only [up_up]; rfl⟩ (by decide) (by decide) dJ25_init_24
abbrev cJ1_compare : ByteArray := prog_68_method_67_code
def yJ1_compare : MethodName := ⟨RJ1, "compare", "(Ljava/lang/Object;Ljava/lang/Object;)I"⟩
def dkwJ1_compare_1 : List UInt8 := [43, 44, 185, 0, 117, 3, 0, 172]
abbrev dktJ1_compare_1 : List UInt8 := dkwJ1_compare_1 ++ []
def dkwJ1_compare_0 : List UInt8 := [42, 180, 0, 16, 199, 0, 16, 43, 192, 0, 99, 44, 185, 0, 107, 2, 0, 167, 0, 14, 42, 180, 0, 16]
abbrev dktJ1_compare_0 : List UInt8 := dkwJ1_compare_0 ++ dktJ1_compare_1
theorem dksJ1_compare_0 : cJ1_compare.data.toList.drop 0 = dktJ1_compare_0 := by decide +kernel
theorem dksJ1_compare_1 : cJ1_compare.data.toList.drop 24 = dktJ1_compare_1 := dk_seg dksJ1_compare_0 24 rfl rfl
theorem dJ1_compare_0 : decode cJ1_compare 0 = .ok (.aload_n 0, 1) := dk_42 (dk_at dksJ1_compare_0 0 rfl rfl)
theorem dJ1_compare_1 : decode cJ1_compare 1 = .ok (.getfield 16, 3) := dk_180 0 16 (dk_at dksJ1_compare_0 1 rfl rfl)
theorem dJ1_compare_4 : decode cJ1_compare 4 = .ok (.ifnonnull 16, 3) := dk_199 0 16 (dk_at dksJ1_compare_0 4 rfl rfl)
theorem dJ1_compare_7 : decode cJ1_compare 7 = .ok (.aload_n 1, 1) := dk_43 (dk_at dksJ1_compare_0 7 rfl rfl)
theorem dJ1_compare_8 : decode cJ1_compare 8 = .ok (.checkcast 99, 3) := dk_192 0 99 (dk_at dksJ1_compare_0 8 rfl rfl)
theorem dJ1_compare_11 : decode cJ1_compare 11 = .ok (.aload_n 2, 1) := dk_44 (dk_at dksJ1_compare_0 11 rfl rfl)
theorem dJ1_compare_12 : decode cJ1_compare 12 = .ok (.invokeinterface 107 2, 5) := by decide +kernel
theorem dJ1_compare_17 : decode cJ1_compare 17 = .ok (.goto 14, 3) := dk_167 0 14 (dk_at dksJ1_compare_0 17 rfl rfl)
theorem dJ1_compare_20 : decode cJ1_compare 20 = .ok (.aload_n 0, 1) := dk_42 (dk_at dksJ1_compare_0 20 rfl rfl)
theorem dJ1_compare_21 : decode cJ1_compare 21 = .ok (.getfield 16, 3) := dk_180 0 16 (dk_at dksJ1_compare_0 21 rfl rfl)
theorem dJ1_compare_24 : decode cJ1_compare 24 = .ok (.aload_n 1, 1) := dk_43 (dk_at dksJ1_compare_1 0 rfl rfl)
theorem dJ1_compare_25 : decode cJ1_compare 25 = .ok (.aload_n 2, 1) := dk_44 (dk_at dksJ1_compare_1 1 rfl rfl)
theorem dJ1_compare_26 : decode cJ1_compare 26 = .ok (.invokeinterface 117 3, 5) := by decide +kernel
theorem dJ1_compare_31 : decode cJ1_compare 31 = .ok (.ireturn, 1) := dk_172 (dk_at dksJ1_compare_1 7 rfl rfl)
set_option maxHeartbeats 4000000 in
theorem m_tmCmp (l : Launch) (hl : l.stackTraces = false) (g : GE) (A : Nat → Prop) (E : List Nat) (tm : Nat) (ka va : Nat → Nat) (lf rt pa : Nat → Option Nat) (co : Nat → Bool) (vl root : Option Nat) (n : Nat) (md : Int32) (h0 : AHT) (ht : tm ∉ E) (a b : Nat) (x y : Int32) (ha : isInt g (tmO E tm ka va lf rt pa co vl root n md h0) a x) (hb : isInt g (tmO E tm ka va lf rt pa co vl root n md h0) b y) : U_ l g A yJ1_compare 4 0 0 [.ref tm, .ref a, .ref b] (tmO E tm ka va lf rt pa co vl root n md h0) (fun v h' => v = some (.int (cmpI x y)) ∧ (tmO E tm ka va lf rt pa co vl root n md h0) = h') noX := by
  refine U_.of (own := RJ1) (cc := cJ1_compare) (L := 3) (ret := (some Jvm.ClassFile.FieldType.int)) hl rfl (plainFor_of_name (by decide)) ⟨by decide, by decide⟩ q1015 q85 (by decide) (fun e => absurd e (by decide)) (Nat.le_of_ble_eq_true rfl) (fun κ cx => ?_)
  show V g A κ _ _ 0 0 (tmO E tm ka va lf rt pa co vl root n md h0) 0 [(0, .ref tm), (1, .ref a), (2, .ref b)] []
  refine V.aload_n cx dJ1_compare_0 rfl 0 rfl ?_
  refine V.get cx kJ1 (tm_t ht) 2 (by decide) q157 rfl rfl dJ1_compare_1 ?_
  show V g A κ _ _ 0 0 (tmO E tm ka va lf rt pa co vl root n md h0) 4 [(0, .ref tm), (1, .ref a), (2, .ref b)] [.null]
  refine V.ifnonnullN cx dJ1_compare_4 ?_
  refine V.aload_n cx dJ1_compare_7 rfl 1 rfl ?_
  refine V.castY cx (C := "java/lang/Integer") ha.rv q686 q709 dJ1_compare_8 ?_
  refine V.aload_n cx dJ1_compare_11 rfl 2 rfl ?_
  refine V.callF (As := [.ref b]) (rest := []) (x := ⟨"java/lang/Comparable", "compareTo", "(Ljava/lang/Object;)I"⟩) cx (m_compareTo l hl g A (tmO E tm ka va lf rt pa co vl root n md h0) a b x y ha hb) kJ18 ha.rv q688 q710 q712 (by decide) (na := 1) rfl (by decide +kernel) (Nat.le_of_ble_eq_true rfl) (by decide) (by decide) (by decide) rfl dJ1_compare_12 (fun _ _ _ hx => hx.elim) (fun v1 h2 hp => ?_)
  obtain ⟨rfl, rfl⟩ := hp
  show V g A κ _ _ 0 0 (tmO E tm ka va lf rt pa co vl root n md h0) 17 [(0, .ref tm), (1, .ref a), (2, .ref b)] [.int (cmpI x y)]
  refine V.goto (tgt := 31) cx dJ1_compare_17 (by decide) ?_
  exact V.ireturn (x := (cmpI x y)) cx rfl rfl ⟨rfl, rfl⟩ (by decide) (by decide) dJ1_compare_31
abbrev cJ1_addEntry : ByteArray := prog_68_method_29_code
def yJ1_addEntry : MethodName := ⟨RJ1, "addEntry", "(Ljava/lang/Object;Ljava/lang/Object;Ljava/util/TreeMap$Entry;Z)V"⟩
def dkwJ1_addEntry_2 : List UInt8 := [181, 0, 7, 42, 89, 180, 0, 13, 4, 96, 181, 0, 13, 177]
abbrev dktJ1_addEntry_2 : List UInt8 := dkwJ1_addEntry_2 ++ []
def dkwJ1_addEntry_1 : List UInt8 := [167, 0, 9, 45, 25, 5, 181, 0, 114, 42, 25, 5, 182, 0, 170, 42, 89, 180, 0, 7, 4, 96]
abbrev dktJ1_addEntry_1 : List UInt8 := dkwJ1_addEntry_1 ++ dktJ1_addEntry_2
def dkwJ1_addEntry_0 : List UInt8 := [187, 0, 59, 89, 43, 44, 45, 183, 0, 167, 58, 5, 21, 4, 153, 0, 12, 45, 25, 5, 181, 0, 111]
abbrev dktJ1_addEntry_0 : List UInt8 := dkwJ1_addEntry_0 ++ dktJ1_addEntry_1
theorem dksJ1_addEntry_0 : cJ1_addEntry.data.toList.drop 0 = dktJ1_addEntry_0 := by decide +kernel
theorem dksJ1_addEntry_1 : cJ1_addEntry.data.toList.drop 23 = dktJ1_addEntry_1 := dk_seg dksJ1_addEntry_0 23 rfl rfl
theorem dksJ1_addEntry_2 : cJ1_addEntry.data.toList.drop 45 = dktJ1_addEntry_2 := dk_seg dksJ1_addEntry_1 22 rfl rfl
theorem dJ1_addEntry_0 : decode cJ1_addEntry 0 = .ok (.new 59, 3) := dk_187 0 59 (dk_at dksJ1_addEntry_0 0 rfl rfl)
theorem dJ1_addEntry_3 : decode cJ1_addEntry 3 = .ok (.dup, 1) := dk_89 (dk_at dksJ1_addEntry_0 3 rfl rfl)
theorem dJ1_addEntry_4 : decode cJ1_addEntry 4 = .ok (.aload_n 1, 1) := dk_43 (dk_at dksJ1_addEntry_0 4 rfl rfl)
theorem dJ1_addEntry_5 : decode cJ1_addEntry 5 = .ok (.aload_n 2, 1) := dk_44 (dk_at dksJ1_addEntry_0 5 rfl rfl)
theorem dJ1_addEntry_6 : decode cJ1_addEntry 6 = .ok (.aload_n 3, 1) := dk_45 (dk_at dksJ1_addEntry_0 6 rfl rfl)
theorem dJ1_addEntry_7 : decode cJ1_addEntry 7 = .ok (.invokespecial 167, 3) := dk_183 0 167 (dk_at dksJ1_addEntry_0 7 rfl rfl)
theorem dJ1_addEntry_10 : decode cJ1_addEntry 10 = .ok (.astore 5, 2) := dk_58 5 (dk_at dksJ1_addEntry_0 10 rfl rfl)
theorem dJ1_addEntry_12 : decode cJ1_addEntry 12 = .ok (.iload 4, 2) := dk_21 4 (dk_at dksJ1_addEntry_0 12 rfl rfl)
theorem dJ1_addEntry_14 : decode cJ1_addEntry 14 = .ok (.ifCond .eq 12, 3) := dk_153 0 12 (dk_at dksJ1_addEntry_0 14 rfl rfl)
theorem dJ1_addEntry_17 : decode cJ1_addEntry 17 = .ok (.aload_n 3, 1) := dk_45 (dk_at dksJ1_addEntry_0 17 rfl rfl)
theorem dJ1_addEntry_18 : decode cJ1_addEntry 18 = .ok (.aload 5, 2) := dk_25 5 (dk_at dksJ1_addEntry_0 18 rfl rfl)
theorem dJ1_addEntry_20 : decode cJ1_addEntry 20 = .ok (.putfield 111, 3) := dk_181 0 111 (dk_at dksJ1_addEntry_0 20 rfl rfl)
theorem dJ1_addEntry_23 : decode cJ1_addEntry 23 = .ok (.goto 9, 3) := dk_167 0 9 (dk_at dksJ1_addEntry_1 0 rfl rfl)
theorem dJ1_addEntry_26 : decode cJ1_addEntry 26 = .ok (.aload_n 3, 1) := dk_45 (dk_at dksJ1_addEntry_1 3 rfl rfl)
theorem dJ1_addEntry_27 : decode cJ1_addEntry 27 = .ok (.aload 5, 2) := dk_25 5 (dk_at dksJ1_addEntry_1 4 rfl rfl)
theorem dJ1_addEntry_29 : decode cJ1_addEntry 29 = .ok (.putfield 114, 3) := dk_181 0 114 (dk_at dksJ1_addEntry_1 6 rfl rfl)
theorem dJ1_addEntry_32 : decode cJ1_addEntry 32 = .ok (.aload_n 0, 1) := dk_42 (dk_at dksJ1_addEntry_1 9 rfl rfl)
theorem dJ1_addEntry_33 : decode cJ1_addEntry 33 = .ok (.aload 5, 2) := dk_25 5 (dk_at dksJ1_addEntry_1 10 rfl rfl)
theorem dJ1_addEntry_35 : decode cJ1_addEntry 35 = .ok (.invokevirtual 170, 3) := dk_182 0 170 (dk_at dksJ1_addEntry_1 12 rfl rfl)
theorem dJ1_addEntry_38 : decode cJ1_addEntry 38 = .ok (.aload_n 0, 1) := dk_42 (dk_at dksJ1_addEntry_1 15 rfl rfl)
theorem dJ1_addEntry_39 : decode cJ1_addEntry 39 = .ok (.dup, 1) := dk_89 (dk_at dksJ1_addEntry_1 16 rfl rfl)
theorem dJ1_addEntry_40 : decode cJ1_addEntry 40 = .ok (.getfield 7, 3) := dk_180 0 7 (dk_at dksJ1_addEntry_1 17 rfl rfl)
theorem dJ1_addEntry_43 : decode cJ1_addEntry 43 = .ok (.iconst 1, 1) := dk_4 (dk_at dksJ1_addEntry_1 20 rfl rfl)
theorem dJ1_addEntry_44 : decode cJ1_addEntry 44 = .ok (.iadd, 1) := dk_96 (dk_at dksJ1_addEntry_1 21 rfl rfl)
theorem dJ1_addEntry_45 : decode cJ1_addEntry 45 = .ok (.putfield 7, 3) := dk_181 0 7 (dk_at dksJ1_addEntry_2 0 rfl rfl)
theorem dJ1_addEntry_48 : decode cJ1_addEntry 48 = .ok (.aload_n 0, 1) := dk_42 (dk_at dksJ1_addEntry_2 3 rfl rfl)
theorem dJ1_addEntry_49 : decode cJ1_addEntry 49 = .ok (.dup, 1) := dk_89 (dk_at dksJ1_addEntry_2 4 rfl rfl)
theorem dJ1_addEntry_50 : decode cJ1_addEntry 50 = .ok (.getfield 13, 3) := dk_180 0 13 (dk_at dksJ1_addEntry_2 5 rfl rfl)
theorem dJ1_addEntry_53 : decode cJ1_addEntry 53 = .ok (.iconst 1, 1) := dk_4 (dk_at dksJ1_addEntry_2 8 rfl rfl)
theorem dJ1_addEntry_54 : decode cJ1_addEntry 54 = .ok (.iadd, 1) := dk_96 (dk_at dksJ1_addEntry_2 9 rfl rfl)
theorem dJ1_addEntry_55 : decode cJ1_addEntry 55 = .ok (.putfield 13, 3) := dk_181 0 13 (dk_at dksJ1_addEntry_2 10 rfl rfl)
theorem dJ1_addEntry_58 : decode cJ1_addEntry 58 = .ok (.return_, 1) := dk_177 (dk_at dksJ1_addEntry_2 13 rfl rfl)
set_option maxHeartbeats 4000000 in
theorem m_addEntry (l : Launch) (hl : l.stackTraces = false) (g : GE) (A : Nat → Prop) (E : List Nat) (tm : Nat) (ka va : Nat → Nat) (lf rt pa : Nat → Option Nat) (co : Nat → Bool) (vl root : Option Nat) (n : Nat) (md : Int32) (h0 : AHT) (ix lo hi : Nat → Nat) (hI : Inv E ix lo hi lf rt pa root) (ht : tm ∉ E) (hb : ∀ r, root = some r → co r = true) (kr vr p : Nat) (hp : p ∈ E) (hr : rt p = none) (hh : hi p = E.length) : U_ l g A yJ1_addEntry 3 1 6 [.ref tm, .ref kr, .ref vr, .ref p, .int (nI 0)] (tmO E tm ka va lf rt pa co vl root n md h0) (fun v h' => v = none ∧ ∃ (q : Nat) (ix' lo' hi' : Nat → Nat) (lf' rt' pa' : Nat → Option Nat) (co' : Nat → Bool) (root' : Option Nat), (tmO E tm ka va lf rt pa co vl root n md h0) q = none ∧ Inv (E ++ [q]) ix' lo' hi' lf' rt' pa' root' ∧ (∀ r, root' = some r → co' r = true) ∧ tmO (E ++ [q]) tm (va_up ka q kr) (va_up va q vr) lf' rt' pa' co' vl root' (n + 1) (md + 1) h0 = h') noX := by
  refine U_.of (own := RJ1) (cc := cJ1_addEntry) (L := 6) (ret := (none)) hl rfl (plainFor_of_name (by decide)) ⟨by decide, by decide⟩ q1049 q85 (by decide) (fun e => absurd e (by decide)) (Nat.le_of_ble_eq_true rfl) (fun κ cx => ?_)
  show V g A κ _ _ 0 0 (tmO E tm ka va lf rt pa co vl root n md h0) 0 [(0, .ref tm), (1, .ref kr), (2, .ref vr), (3, .ref p), (4, .int (nI 0))] []
  refine V.new (fs := [.null, .null, .null, .null, .null, .int 0]) cx kJ25 q1016 q1017 q114 (fun j hj => by rcases (show j = 0 ∨ j = 1 ∨ j = 2 ∨ j = 3 ∨ j = 4 ∨ j = 5 by omega) with rfl | rfl | rfl | rfl | rfl | rfl <;> rfl) (by decide) (by decide) dJ1_addEntry_0 (fun q1 hn_q1 => ?_)
  refine V.dup cx dJ1_addEntry_3 rfl ?_
  refine V.aload_n cx dJ1_addEntry_4 rfl 1 rfl ?_
  refine V.aload_n cx dJ1_addEntry_5 rfl 2 rfl ?_
  refine V.aload_n cx dJ1_addEntry_6 rfl 3 rfl ?_
  refine V.callI (As := [.ref kr, .ref vr, .ref p]) (rest := [.ref q1]) cx (m_entInitS l hl g A (up (tmO E tm ka va lf rt pa co vl root n md h0) q1 (ob 19 [.null, .null, .null, .null, .null, .int 0])) q1 kr vr p up_s) q1018 q1019 rfl (na := 3) rfl (by decide +kernel) (Nat.le_of_ble_eq_true rfl) (by decide) (by decide) (by decide) rfl dJ1_addEntry_7 (fun _ _ _ hx => hx.elim) (fun v2 h3 hp => ?_)
  obtain ⟨rfl, rfl⟩ := hp
  show V g A κ _ _ 1 6 (up (up (tmO E tm ka va lf rt pa co vl root n md h0) q1 (ob 19 [.null, .null, .null, .null, .null, .int 0])) q1 (ob 19 [.ref kr, .ref vr, va_rf none, va_rf none, va_rf (some p), .int (b2 true)])) 10 [(0, .ref tm), (1, .ref kr), (2, .ref vr), (3, .ref p), (4, .int (nI 0))] [.ref q1]
  obtain ⟨hqE, hqt, hq0⟩ := tm_out hn_q1
  have ht2 : tm ∉ E ++ [q1] := by simp only [List.mem_append, List.mem_singleton, not_or]; exact ⟨ht, Ne.symm hqt⟩
  refine V.hto (h' := (tmO (E ++ [q1]) tm (va_up ka q1 kr) (va_up va q1 vr) (va_up lf q1 none) (va_up rt q1 none) (va_up pa q1 (some p)) (va_up co q1 true) vl root n md h0)) (by rw [up_up]; exact tm_new hn_q1) ?_
  show V g A κ _ _ 1 6 (tmO (E ++ [q1]) tm (va_up ka q1 kr) (va_up va q1 vr) (va_up lf q1 none) (va_up rt q1 none) (va_up pa q1 (some p)) (va_up co q1 true) vl root n md h0) 10 [(0, .ref tm), (1, .ref kr), (2, .ref vr), (3, .ref p), (4, .int (nI 0))] [.ref q1]
  have hpm : p ∈ E ++ [q1] := List.mem_append_left _ hp
  have npq : p ≠ q1 := fun e => hqE (e ▸ hp)
  refine V.astore (lv' := [(5, .ref q1), (0, .ref tm), (1, .ref kr), (2, .ref vr), (3, .ref p), (4, .int (nI 0))]) cx dJ1_addEntry_10 (by decide) rfl ?_
  refine V.iload cx dJ1_addEntry_12 5 rfl ?_
  refine V.nif_eq (a := 0) (tgt := 26) cx (by decide) dJ1_addEntry_14 (by decide) (fun c9 => ?_) (fun c9 => ?_)
  · refine V.aload_n cx dJ1_addEntry_26 rfl 4 rfl ?_
    refine V.aload cx dJ1_addEntry_27 0 rfl ?_
    refine V.put (ty := tyJ25 3) cx kJ25 (tm_e hpm) 3 (by decide) rfl (tyJ25_ok 3 (by decide)) rfl rfl (Nat.le_of_ble_eq_true rfl) q1028 rfl dJ1_addEntry_29 ?_
    refine V.hto (tm_rt (o := (some q1)) hpm) ?_
    show V g A κ _ _ 1 6 (tmO (E ++ [q1]) tm (va_up ka q1 kr) (va_up va q1 vr) (va_up lf q1 none) (va_up (va_up rt q1 none) p (some q1)) (va_up pa q1 (some p)) (va_up co q1 true) vl root n md h0) 32 [(5, .ref q1), (0, .ref tm), (1, .ref kr), (2, .ref vr), (3, .ref p), (4, .int (nI 0))] []
    refine V.aload_n cx dJ1_addEntry_32 rfl 1 rfl ?_
    refine V.aload cx dJ1_addEntry_33 0 rfl ?_
    have hI2 := Inv.app hI hp hr hh hqE
    refine V.callV (As := [.ref q1]) (rest := []) (C := "java/util/TreeMap") cx (m_fixIns l hl g A (E ++ [q1]) tm (va_up ka q1 kr) (va_up va q1 vr) (va_up lf q1 none) (va_up (va_up rt q1 none) p (some q1)) (va_up pa q1 (some p)) (va_up co q1 true) vl root n md h0 _ _ _ hI2 ht2 (fun r hr9 => by have h1 := hb r hr9; have h2 : r ≠ q1 := fun e => hqE (e ▸ (hI.2.2.2.2.2.2 r hr9).1); rw [va_up_ne _ _ h2]; exact h1) q1 (by simp)) rfl q1050 q1052 qs8 (Rv.of kJ1 (tm_t ht2)) (na := 1) rfl (by decide +kernel) (Nat.le_of_ble_eq_true rfl) (by decide) (by decide) (by decide) rfl dJ1_addEntry_35 (fun _ _ _ hx => hx.elim) (fun v4 h5 hp => ?_)
    obtain ⟨rfl, lo', hi', lf', rt', pa', co', root', hI', hb', rfl⟩ := hp
    show V g A κ _ _ 1 6 (tmO (E ++ [q1]) tm (va_up ka q1 kr) (va_up va q1 vr) lf' rt' pa' co' vl root' n md h0) 38 [(5, .ref q1), (0, .ref tm), (1, .ref kr), (2, .ref vr), (3, .ref p), (4, .int (nI 0))] []
    refine V.aload_n cx dJ1_addEntry_38 rfl 1 rfl ?_
    refine V.dup cx dJ1_addEntry_39 rfl ?_
    refine V.get cx kJ1 (tm_t ht2) 4 (by decide) q159 rfl rfl dJ1_addEntry_40 ?_
    show V g A κ _ _ 1 6 (tmO (E ++ [q1]) tm (va_up ka q1 kr) (va_up va q1 vr) lf' rt' pa' co' vl root' n md h0) 43 [(5, .ref q1), (0, .ref tm), (1, .ref kr), (2, .ref vr), (3, .ref p), (4, .int (nI 0))] [.int (nI n), .ref tm]
    refine V.iconst (v := (nI 1)) cx dJ1_addEntry_43 (by decide) ?_
    refine V.iadd cx dJ1_addEntry_44 ?_
    refine V.toi (nI_add n 1) ?_
    refine V.put (ty := tyJ1 4) cx kJ1 (tm_t ht2) 4 (by decide) rfl (tyJ1_ok 4 (by decide)) rfl rfl (Nat.le_of_ble_eq_true rfl) q159 rfl dJ1_addEntry_45 ?_
    refine V.hto (tm_tm (vl' := vl) (root' := root') (n' := n + 1) (md' := md) ht2) ?_
    show V g A κ _ _ 1 6 (tmO (E ++ [q1]) tm (va_up ka q1 kr) (va_up va q1 vr) lf' rt' pa' co' vl root' (n + 1) md h0) 48 [(5, .ref q1), (0, .ref tm), (1, .ref kr), (2, .ref vr), (3, .ref p), (4, .int (nI 0))] []
    refine V.aload_n cx dJ1_addEntry_48 rfl 1 rfl ?_
    refine V.dup cx dJ1_addEntry_49 rfl ?_
    refine V.get cx kJ1 (tm_t ht2) 5 (by decide) q160 rfl rfl dJ1_addEntry_50 ?_
    show V g A κ _ _ 1 6 (tmO (E ++ [q1]) tm (va_up ka q1 kr) (va_up va q1 vr) lf' rt' pa' co' vl root' (n + 1) md h0) 53 [(5, .ref q1), (0, .ref tm), (1, .ref kr), (2, .ref vr), (3, .ref p), (4, .int (nI 0))] [.int md, .ref tm]
    refine V.iconst (v := (nI 1)) cx dJ1_addEntry_53 (by decide) ?_
    refine V.iadd cx dJ1_addEntry_54 ?_
    refine V.put (ty := tyJ1 5) cx kJ1 (tm_t ht2) 5 (by decide) rfl (tyJ1_ok 5 (by decide)) rfl rfl (Nat.le_of_ble_eq_true rfl) q160 rfl dJ1_addEntry_55 ?_
    refine V.hto (tm_tm (vl' := vl) (root' := root') (n' := n + 1) (md' := (md + (nI 1))) ht2) ?_
    show V g A κ _ _ 1 6 (tmO (E ++ [q1]) tm (va_up ka q1 kr) (va_up va q1 vr) lf' rt' pa' co' vl root' (n + 1) (md + (nI 1)) h0) 58 [(5, .ref q1), (0, .ref tm), (1, .ref kr), (2, .ref vr), (3, .ref p), (4, .int (nI 0))] []
    exact V.vreturn cx rfl ⟨rfl, q1, _, lo', hi', lf', rt', pa', co', root', hn_q1, hI', hb', rfl⟩ (by decide) (by decide) dJ1_addEntry_58
  · exact absurd rfl c9
abbrev cJ1_addEntryToEmptyMap : ByteArray := prog_68_method_30_code
def yJ1_addEntryToEmptyMap : MethodName := ⟨RJ1, "addEntryToEmptyMap", "(Ljava/lang/Object;Ljava/lang/Object;)V"⟩
def dkwJ1_addEntryToEmptyMap_1 : List UInt8 := [181, 0, 7, 42, 89, 180, 0, 13, 4, 96, 181, 0, 13, 177]
abbrev dktJ1_addEntryToEmptyMap_1 : List UInt8 := dkwJ1_addEntryToEmptyMap_1 ++ []
def dkwJ1_addEntryToEmptyMap_0 : List UInt8 := [42, 43, 43, 182, 0, 123, 87, 42, 187, 0, 59, 89, 43, 44, 1, 183, 0, 167, 181, 0, 101, 42, 4]
abbrev dktJ1_addEntryToEmptyMap_0 : List UInt8 := dkwJ1_addEntryToEmptyMap_0 ++ dktJ1_addEntryToEmptyMap_1
theorem dksJ1_addEntryToEmptyMap_0 : cJ1_addEntryToEmptyMap.data.toList.drop 0 = dktJ1_addEntryToEmptyMap_0 := by decide +kernel
theorem dksJ1_addEntryToEmptyMap_1 : cJ1_addEntryToEmptyMap.data.toList.drop 23 = dktJ1_addEntryToEmptyMap_1 := dk_seg dksJ1_addEntryToEmptyMap_0 23 rfl rfl
theorem dJ1_addEntryToEmptyMap_0 : decode cJ1_addEntryToEmptyMap 0 = .ok (.aload_n 0, 1) := dk_42 (dk_at dksJ1_addEntryToEmptyMap_0 0 rfl rfl)
theorem dJ1_addEntryToEmptyMap_1 : decode cJ1_addEntryToEmptyMap 1 = .ok (.aload_n 1, 1) := dk_43 (dk_at dksJ1_addEntryToEmptyMap_0 1 rfl rfl)
theorem dJ1_addEntryToEmptyMap_2 : decode cJ1_addEntryToEmptyMap 2 = .ok (.aload_n 1, 1) := dk_43 (dk_at dksJ1_addEntryToEmptyMap_0 2 rfl rfl)
theorem dJ1_addEntryToEmptyMap_3 : decode cJ1_addEntryToEmptyMap 3 = .ok (.invokevirtual 123, 3) := dk_182 0 123 (dk_at dksJ1_addEntryToEmptyMap_0 3 rfl rfl)
theorem dJ1_addEntryToEmptyMap_6 : decode cJ1_addEntryToEmptyMap 6 = .ok (.pop, 1) := dk_87 (dk_at dksJ1_addEntryToEmptyMap_0 6 rfl rfl)
theorem dJ1_addEntryToEmptyMap_7 : decode cJ1_addEntryToEmptyMap 7 = .ok (.aload_n 0, 1) := dk_42 (dk_at dksJ1_addEntryToEmptyMap_0 7 rfl rfl)
theorem dJ1_addEntryToEmptyMap_8 : decode cJ1_addEntryToEmptyMap 8 = .ok (.new 59, 3) := dk_187 0 59 (dk_at dksJ1_addEntryToEmptyMap_0 8 rfl rfl)
theorem dJ1_addEntryToEmptyMap_11 : decode cJ1_addEntryToEmptyMap 11 = .ok (.dup, 1) := dk_89 (dk_at dksJ1_addEntryToEmptyMap_0 11 rfl rfl)
theorem dJ1_addEntryToEmptyMap_12 : decode cJ1_addEntryToEmptyMap 12 = .ok (.aload_n 1, 1) := dk_43 (dk_at dksJ1_addEntryToEmptyMap_0 12 rfl rfl)
theorem dJ1_addEntryToEmptyMap_13 : decode cJ1_addEntryToEmptyMap 13 = .ok (.aload_n 2, 1) := dk_44 (dk_at dksJ1_addEntryToEmptyMap_0 13 rfl rfl)
theorem dJ1_addEntryToEmptyMap_14 : decode cJ1_addEntryToEmptyMap 14 = .ok (.aconst_null, 1) := dk_1 (dk_at dksJ1_addEntryToEmptyMap_0 14 rfl rfl)
theorem dJ1_addEntryToEmptyMap_15 : decode cJ1_addEntryToEmptyMap 15 = .ok (.invokespecial 167, 3) := dk_183 0 167 (dk_at dksJ1_addEntryToEmptyMap_0 15 rfl rfl)
theorem dJ1_addEntryToEmptyMap_18 : decode cJ1_addEntryToEmptyMap 18 = .ok (.putfield 101, 3) := dk_181 0 101 (dk_at dksJ1_addEntryToEmptyMap_0 18 rfl rfl)
theorem dJ1_addEntryToEmptyMap_21 : decode cJ1_addEntryToEmptyMap 21 = .ok (.aload_n 0, 1) := dk_42 (dk_at dksJ1_addEntryToEmptyMap_0 21 rfl rfl)
theorem dJ1_addEntryToEmptyMap_22 : decode cJ1_addEntryToEmptyMap 22 = .ok (.iconst 1, 1) := dk_4 (dk_at dksJ1_addEntryToEmptyMap_0 22 rfl rfl)
theorem dJ1_addEntryToEmptyMap_23 : decode cJ1_addEntryToEmptyMap 23 = .ok (.putfield 7, 3) := dk_181 0 7 (dk_at dksJ1_addEntryToEmptyMap_1 0 rfl rfl)
theorem dJ1_addEntryToEmptyMap_26 : decode cJ1_addEntryToEmptyMap 26 = .ok (.aload_n 0, 1) := dk_42 (dk_at dksJ1_addEntryToEmptyMap_1 3 rfl rfl)
theorem dJ1_addEntryToEmptyMap_27 : decode cJ1_addEntryToEmptyMap 27 = .ok (.dup, 1) := dk_89 (dk_at dksJ1_addEntryToEmptyMap_1 4 rfl rfl)
theorem dJ1_addEntryToEmptyMap_28 : decode cJ1_addEntryToEmptyMap 28 = .ok (.getfield 13, 3) := dk_180 0 13 (dk_at dksJ1_addEntryToEmptyMap_1 5 rfl rfl)
theorem dJ1_addEntryToEmptyMap_31 : decode cJ1_addEntryToEmptyMap 31 = .ok (.iconst 1, 1) := dk_4 (dk_at dksJ1_addEntryToEmptyMap_1 8 rfl rfl)
theorem dJ1_addEntryToEmptyMap_32 : decode cJ1_addEntryToEmptyMap 32 = .ok (.iadd, 1) := dk_96 (dk_at dksJ1_addEntryToEmptyMap_1 9 rfl rfl)
theorem dJ1_addEntryToEmptyMap_33 : decode cJ1_addEntryToEmptyMap 33 = .ok (.putfield 13, 3) := dk_181 0 13 (dk_at dksJ1_addEntryToEmptyMap_1 10 rfl rfl)
theorem dJ1_addEntryToEmptyMap_36 : decode cJ1_addEntryToEmptyMap 36 = .ok (.return_, 1) := dk_177 (dk_at dksJ1_addEntryToEmptyMap_1 13 rfl rfl)
set_option maxHeartbeats 4000000 in
theorem m_addFirst (l : Launch) (hl : l.stackTraces = false) (g : GE) (A : Nat → Prop) (tm : Nat) (ka va : Nat → Nat) (lf rt pa : Nat → Option Nat) (co : Nat → Bool) (vl : Option Nat) (md : Int32) (h0 : AHT) (ht : tm ∉ ([] : List Nat)) (kr vr : Nat) (k : Int32) (hk : isInt g (tmO [] tm ka va lf rt pa co vl none 0 md h0) kr k) : U_ l g A yJ1_addEntryToEmptyMap 5 1 6 [.ref tm, .ref kr, .ref vr] (tmO [] tm ka va lf rt pa co vl none 0 md h0) (fun v h' => v = none ∧ ∃ (q : Nat) (ix' lo' hi' : Nat → Nat) (lf' rt' pa' : Nat → Option Nat) (co' : Nat → Bool) (root' : Option Nat), (tmO [] tm ka va lf rt pa co vl none 0 md h0) q = none ∧ Inv ([q]) ix' lo' hi' lf' rt' pa' root' ∧ (∀ r, root' = some r → co' r = true) ∧ tmO ([q]) tm (va_up ka q kr) (va_up va q vr) lf' rt' pa' co' vl root' 1 (md + 1) h0 = h') noX := by
  refine U_.of (own := RJ1) (cc := cJ1_addEntryToEmptyMap) (L := 3) (ret := (none)) hl rfl (plainFor_of_name (by decide)) ⟨by decide, by decide⟩ q1011 q85 (by decide) (fun e => absurd e (by decide)) (Nat.le_of_ble_eq_true rfl) (fun κ cx => ?_)
  show V g A κ _ _ 0 0 (tmO [] tm ka va lf rt pa co vl none 0 md h0) 0 [(0, .ref tm), (1, .ref kr), (2, .ref vr)] []
  refine V.aload_n cx dJ1_addEntryToEmptyMap_0 rfl 0 rfl ?_
  refine V.aload_n cx dJ1_addEntryToEmptyMap_1 rfl 1 rfl ?_
  refine V.aload_n cx dJ1_addEntryToEmptyMap_2 rfl 1 rfl ?_
  refine V.callV (As := [.ref kr, .ref kr]) (rest := []) (C := "java/util/TreeMap") cx (m_tmCmp l hl g A [] tm ka va lf rt pa co vl none 0 md h0 ht kr kr k k hk hk) rfl q1012 q1013 q1014 (Rv.of kJ1 (tm_t ht)) (na := 2) rfl (by decide +kernel) (Nat.le_of_ble_eq_true rfl) (by decide) (by decide) (by decide) rfl dJ1_addEntryToEmptyMap_3 (fun _ _ _ hx => hx.elim) (fun v1 h2 hp => ?_)
  obtain ⟨rfl, rfl⟩ := hp
  show V g A κ _ _ 0 0 (tmO [] tm ka va lf rt pa co vl none 0 md h0) 6 [(0, .ref tm), (1, .ref kr), (2, .ref vr)] [.int (cmpI k k)]
  refine V.pop cx dJ1_addEntryToEmptyMap_6 rfl ?_
  refine V.aload_n cx dJ1_addEntryToEmptyMap_7 rfl 0 rfl ?_
  refine V.new (fs := [.null, .null, .null, .null, .null, .int 0]) cx kJ25 q1016 q1017 q114 (fun j hj => by rcases (show j = 0 ∨ j = 1 ∨ j = 2 ∨ j = 3 ∨ j = 4 ∨ j = 5 by omega) with rfl | rfl | rfl | rfl | rfl | rfl <;> rfl) (by decide) (by decide) dJ1_addEntryToEmptyMap_8 (fun q3 hn_q3 => ?_)
  refine V.dup cx dJ1_addEntryToEmptyMap_11 rfl ?_
  refine V.aload_n cx dJ1_addEntryToEmptyMap_12 rfl 1 rfl ?_
  refine V.aload_n cx dJ1_addEntryToEmptyMap_13 rfl 2 rfl ?_
  refine V.null cx dJ1_addEntryToEmptyMap_14 ?_
  refine V.callI (As := [.ref kr, .ref vr, .null]) (rest := [.ref q3, .ref tm]) cx (m_entInitN l hl g A (up (tmO [] tm ka va lf rt pa co vl none 0 md h0) q3 (ob 19 [.null, .null, .null, .null, .null, .int 0])) q3 kr vr up_s) q1018 q1019 rfl (na := 3) rfl (by decide +kernel) (Nat.le_of_ble_eq_true rfl) (by decide) (by decide) (by decide) rfl dJ1_addEntryToEmptyMap_15 (fun _ _ _ hx => hx.elim) (fun v4 h5 hp => ?_)
  obtain ⟨rfl, rfl⟩ := hp
  show V g A κ _ _ 1 6 (up (up (tmO [] tm ka va lf rt pa co vl none 0 md h0) q3 (ob 19 [.null, .null, .null, .null, .null, .int 0])) q3 (ob 19 [.ref kr, .ref vr, va_rf none, va_rf none, va_rf none, .int (b2 true)])) 18 [(0, .ref tm), (1, .ref kr), (2, .ref vr)] [.ref q3, .ref tm]
  obtain ⟨hqE, hqt, hq0⟩ := tm_out hn_q3
  have ht2 : tm ∉ [] ++ [q3] := by simp only [List.mem_append, List.mem_singleton, not_or]; exact ⟨ht, Ne.symm hqt⟩
  refine V.hto (h' := (tmO ([] ++ [q3]) tm (va_up ka q3 kr) (va_up va q3 vr) (va_up lf q3 none) (va_up rt q3 none) (va_up pa q3 none) (va_up co q3 true) vl none 0 md h0)) (by rw [up_up]; exact tm_new hn_q3) ?_
  show V g A κ _ _ 1 6 (tmO ([] ++ [q3]) tm (va_up ka q3 kr) (va_up va q3 vr) (va_up lf q3 none) (va_up rt q3 none) (va_up pa q3 none) (va_up co q3 true) vl none 0 md h0) 18 [(0, .ref tm), (1, .ref kr), (2, .ref vr)] [.ref q3, .ref tm]
  refine V.put (ty := tyJ1 3) cx kJ1 (tm_t ht2) 3 (by decide) rfl (tyJ1_ok 3 (by decide)) rfl rfl (Nat.le_of_ble_eq_true rfl) q158 rfl dJ1_addEntryToEmptyMap_18 ?_
  refine V.hto (tm_tm (vl' := vl) (root' := (some q3)) (n' := 0) (md' := md) ht2) ?_
  show V g A κ _ _ 1 6 (tmO ([] ++ [q3]) tm (va_up ka q3 kr) (va_up va q3 vr) (va_up lf q3 none) (va_up rt q3 none) (va_up pa q3 none) (va_up co q3 true) vl (some q3) 0 md h0) 21 [(0, .ref tm), (1, .ref kr), (2, .ref vr)] []
  refine V.aload_n cx dJ1_addEntryToEmptyMap_21 rfl 0 rfl ?_
  refine V.iconst (v := (nI 1)) cx dJ1_addEntryToEmptyMap_22 (by decide) ?_
  refine V.put (ty := tyJ1 4) cx kJ1 (tm_t ht2) 4 (by decide) rfl (tyJ1_ok 4 (by decide)) rfl rfl (Nat.le_of_ble_eq_true rfl) q159 rfl dJ1_addEntryToEmptyMap_23 ?_
  refine V.hto (tm_tm (vl' := vl) (root' := (some q3)) (n' := 1) (md' := md) ht2) ?_
  show V g A κ _ _ 1 6 (tmO ([] ++ [q3]) tm (va_up ka q3 kr) (va_up va q3 vr) (va_up lf q3 none) (va_up rt q3 none) (va_up pa q3 none) (va_up co q3 true) vl (some q3) 1 md h0) 26 [(0, .ref tm), (1, .ref kr), (2, .ref vr)] []
  refine V.aload_n cx dJ1_addEntryToEmptyMap_26 rfl 0 rfl ?_
  refine V.dup cx dJ1_addEntryToEmptyMap_27 rfl ?_
  refine V.get cx kJ1 (tm_t ht2) 5 (by decide) q160 rfl rfl dJ1_addEntryToEmptyMap_28 ?_
  show V g A κ _ _ 1 6 (tmO ([] ++ [q3]) tm (va_up ka q3 kr) (va_up va q3 vr) (va_up lf q3 none) (va_up rt q3 none) (va_up pa q3 none) (va_up co q3 true) vl (some q3) 1 md h0) 31 [(0, .ref tm), (1, .ref kr), (2, .ref vr)] [.int md, .ref tm]
  refine V.iconst (v := (nI 1)) cx dJ1_addEntryToEmptyMap_31 (by decide) ?_
  refine V.iadd cx dJ1_addEntryToEmptyMap_32 ?_
  refine V.put (ty := tyJ1 5) cx kJ1 (tm_t ht2) 5 (by decide) rfl (tyJ1_ok 5 (by decide)) rfl rfl (Nat.le_of_ble_eq_true rfl) q160 rfl dJ1_addEntryToEmptyMap_33 ?_
  refine V.hto (tm_tm (vl' := vl) (root' := (some q3)) (n' := 1) (md' := (md + (nI 1))) ht2) ?_
  show V g A κ _ _ 1 6 (tmO ([] ++ [q3]) tm (va_up ka q3 kr) (va_up va q3 vr) (va_up lf q3 none) (va_up rt q3 none) (va_up pa q3 none) (va_up co q3 true) vl (some q3) 1 (md + (nI 1)) h0) 36 [(0, .ref tm), (1, .ref kr), (2, .ref vr)] []
  exact V.vreturn cx rfl ⟨rfl, q3, _, _, _, _, _, _, va_up co q3 true, _, hn_q3, Inv.one q3 lf rt pa, fun r hr => by cases hr; unfold va_up; rw [if_pos rfl], rfl⟩ (by decide) (by decide) dJ1_addEntryToEmptyMap_36
theorem TM_sorted {E : List Nat} {ix lo hi : Nat → Nat} {lf rt pa : Nat → Option Nat} {root : Option Nat} (hI : Inv E ix lo hi lf rt pa root) {kk : Nat → Int32} (hp : (E.map kk).Pairwise (· < ·)) : ∀ a b, a ∈ E → b ∈ E → ix a < ix b → kk a < kk b := by
  intro a b ha hb hab
  have h1 := hI.1 a ha
  have h2 := hI.1 b hb
  obtain ⟨l1, e1⟩ := List.getElem?_eq_some_iff.mp h1
  obtain ⟨l2, e2⟩ := List.getElem?_eq_some_iff.mp h2
  have := List.pairwise_iff_getElem.mp hp (ix a) (ix b) (by simpa using l1) (by simpa using l2) hab
  simp only [List.getElem_map, e1, e2] at this
  exact this
abbrev cJ1_put_2 : ByteArray := prog_68_method_31_code
def yJ1_put_2 : MethodName := ⟨RJ1, "put", "(Ljava/lang/Object;Ljava/lang/Object;Z)Ljava/lang/Object;"⟩
def dkwJ1_put_2_9 : List UInt8 := [4, 167, 0, 4, 3, 182, 0, 139, 1, 176]
abbrev dktJ1_put_2_9 : List UInt8 := dkwJ1_put_2_9 ++ []
def dkwJ1_put_2_8 : List UInt8 := [25, 4, 44, 181, 0, 58, 25, 9, 176, 25, 4, 199, 255, 181, 42, 43, 44, 25, 6, 21, 5, 156, 0, 7]
abbrev dktJ1_put_2_8 : List UInt8 := dkwJ1_put_2_8 ++ dktJ1_put_2_9
def dkwJ1_put_2_7 : List UInt8 := [180, 0, 114, 58, 4, 167, 0, 28, 25, 4, 180, 0, 58, 58, 9, 29, 154, 0, 8, 25, 9, 199, 0, 9]
abbrev dktJ1_put_2_7 : List UInt8 := dkwJ1_put_2_7 ++ dktJ1_put_2_8
def dkwJ1_put_2_6 : List UInt8 := [21, 5, 156, 0, 13, 25, 4, 180, 0, 111, 58, 4, 167, 0, 43, 21, 5, 158, 0, 13, 25, 4]
abbrev dktJ1_put_2_6 : List UInt8 := dkwJ1_put_2_6 ++ dktJ1_put_2_7
def dkwJ1_put_2_5 : List UInt8 := [192, 0, 99, 58, 8, 25, 4, 58, 6, 25, 8, 25, 4, 180, 0, 105, 185, 0, 107, 2, 0, 54, 5]
abbrev dktJ1_put_2_5 : List UInt8 := dkwJ1_put_2_5 ++ dktJ1_put_2_6
def dkwJ1_put_2_4 : List UInt8 := [25, 4, 44, 181, 0, 58, 25, 8, 176, 25, 4, 199, 255, 180, 167, 0, 92, 43, 184, 0, 95, 87, 43]
abbrev dktJ1_put_2_4 : List UInt8 := dkwJ1_put_2_4 ++ dktJ1_put_2_5
def dkwJ1_put_2_3 : List UInt8 := [180, 0, 114, 58, 4, 167, 0, 28, 25, 4, 180, 0, 58, 58, 8, 29, 154, 0, 8, 25, 8, 199, 0, 9]
abbrev dktJ1_put_2_3 : List UInt8 := dkwJ1_put_2_3 ++ dktJ1_put_2_4
def dkwJ1_put_2_2 : List UInt8 := [54, 5, 21, 5, 156, 0, 13, 25, 4, 180, 0, 111, 58, 4, 167, 0, 43, 21, 5, 158, 0, 13, 25, 4]
abbrev dktJ1_put_2_2 : List UInt8 := dkwJ1_put_2_2 ++ dktJ1_put_2_3
def dkwJ1_put_2_1 : List UInt8 := [58, 7, 25, 7, 198, 0, 85, 25, 4, 58, 6, 25, 7, 43, 25, 4, 180, 0, 105, 185, 0, 117, 3, 0]
abbrev dktJ1_put_2_1 : List UInt8 := dkwJ1_put_2_1 ++ dktJ1_put_2_2
def dkwJ1_put_2_0 : List UInt8 := [42, 180, 0, 101, 58, 4, 25, 4, 199, 0, 11, 42, 43, 44, 182, 0, 135, 1, 176, 42, 180, 0, 16]
abbrev dktJ1_put_2_0 : List UInt8 := dkwJ1_put_2_0 ++ dktJ1_put_2_1
theorem dksJ1_put_2_0 : cJ1_put_2.data.toList.drop 0 = dktJ1_put_2_0 := by decide +kernel
theorem dksJ1_put_2_1 : cJ1_put_2.data.toList.drop 23 = dktJ1_put_2_1 := dk_seg dksJ1_put_2_0 23 rfl rfl
theorem dksJ1_put_2_2 : cJ1_put_2.data.toList.drop 47 = dktJ1_put_2_2 := dk_seg dksJ1_put_2_1 24 rfl rfl
theorem dksJ1_put_2_3 : cJ1_put_2.data.toList.drop 71 = dktJ1_put_2_3 := dk_seg dksJ1_put_2_2 24 rfl rfl
theorem dksJ1_put_2_4 : cJ1_put_2.data.toList.drop 95 = dktJ1_put_2_4 := dk_seg dksJ1_put_2_3 24 rfl rfl
theorem dksJ1_put_2_5 : cJ1_put_2.data.toList.drop 118 = dktJ1_put_2_5 := dk_seg dksJ1_put_2_4 23 rfl rfl
theorem dksJ1_put_2_6 : cJ1_put_2.data.toList.drop 141 = dktJ1_put_2_6 := dk_seg dksJ1_put_2_5 23 rfl rfl
theorem dksJ1_put_2_7 : cJ1_put_2.data.toList.drop 163 = dktJ1_put_2_7 := dk_seg dksJ1_put_2_6 22 rfl rfl
theorem dksJ1_put_2_8 : cJ1_put_2.data.toList.drop 187 = dktJ1_put_2_8 := dk_seg dksJ1_put_2_7 24 rfl rfl
theorem dksJ1_put_2_9 : cJ1_put_2.data.toList.drop 211 = dktJ1_put_2_9 := dk_seg dksJ1_put_2_8 24 rfl rfl
theorem dJ1_put_2_0 : decode cJ1_put_2 0 = .ok (.aload_n 0, 1) := dk_42 (dk_at dksJ1_put_2_0 0 rfl rfl)
theorem dJ1_put_2_1 : decode cJ1_put_2 1 = .ok (.getfield 101, 3) := dk_180 0 101 (dk_at dksJ1_put_2_0 1 rfl rfl)
theorem dJ1_put_2_4 : decode cJ1_put_2 4 = .ok (.astore 4, 2) := dk_58 4 (dk_at dksJ1_put_2_0 4 rfl rfl)
theorem dJ1_put_2_6 : decode cJ1_put_2 6 = .ok (.aload 4, 2) := dk_25 4 (dk_at dksJ1_put_2_0 6 rfl rfl)
theorem dJ1_put_2_8 : decode cJ1_put_2 8 = .ok (.ifnonnull 11, 3) := dk_199 0 11 (dk_at dksJ1_put_2_0 8 rfl rfl)
theorem dJ1_put_2_11 : decode cJ1_put_2 11 = .ok (.aload_n 0, 1) := dk_42 (dk_at dksJ1_put_2_0 11 rfl rfl)
theorem dJ1_put_2_12 : decode cJ1_put_2 12 = .ok (.aload_n 1, 1) := dk_43 (dk_at dksJ1_put_2_0 12 rfl rfl)
theorem dJ1_put_2_13 : decode cJ1_put_2 13 = .ok (.aload_n 2, 1) := dk_44 (dk_at dksJ1_put_2_0 13 rfl rfl)
theorem dJ1_put_2_14 : decode cJ1_put_2 14 = .ok (.invokevirtual 135, 3) := dk_182 0 135 (dk_at dksJ1_put_2_0 14 rfl rfl)
theorem dJ1_put_2_17 : decode cJ1_put_2 17 = .ok (.aconst_null, 1) := dk_1 (dk_at dksJ1_put_2_0 17 rfl rfl)
theorem dJ1_put_2_18 : decode cJ1_put_2 18 = .ok (.areturn, 1) := dk_176 (dk_at dksJ1_put_2_0 18 rfl rfl)
theorem dJ1_put_2_19 : decode cJ1_put_2 19 = .ok (.aload_n 0, 1) := dk_42 (dk_at dksJ1_put_2_0 19 rfl rfl)
theorem dJ1_put_2_20 : decode cJ1_put_2 20 = .ok (.getfield 16, 3) := dk_180 0 16 (dk_at dksJ1_put_2_0 20 rfl rfl)
theorem dJ1_put_2_23 : decode cJ1_put_2 23 = .ok (.astore 7, 2) := dk_58 7 (dk_at dksJ1_put_2_1 0 rfl rfl)
theorem dJ1_put_2_25 : decode cJ1_put_2 25 = .ok (.aload 7, 2) := dk_25 7 (dk_at dksJ1_put_2_1 2 rfl rfl)
theorem dJ1_put_2_27 : decode cJ1_put_2 27 = .ok (.ifnull 85, 3) := dk_198 0 85 (dk_at dksJ1_put_2_1 4 rfl rfl)
theorem dJ1_put_2_30 : decode cJ1_put_2 30 = .ok (.aload 4, 2) := dk_25 4 (dk_at dksJ1_put_2_1 7 rfl rfl)
theorem dJ1_put_2_32 : decode cJ1_put_2 32 = .ok (.astore 6, 2) := dk_58 6 (dk_at dksJ1_put_2_1 9 rfl rfl)
theorem dJ1_put_2_34 : decode cJ1_put_2 34 = .ok (.aload 7, 2) := dk_25 7 (dk_at dksJ1_put_2_1 11 rfl rfl)
theorem dJ1_put_2_36 : decode cJ1_put_2 36 = .ok (.aload_n 1, 1) := dk_43 (dk_at dksJ1_put_2_1 13 rfl rfl)
theorem dJ1_put_2_37 : decode cJ1_put_2 37 = .ok (.aload 4, 2) := dk_25 4 (dk_at dksJ1_put_2_1 14 rfl rfl)
theorem dJ1_put_2_39 : decode cJ1_put_2 39 = .ok (.getfield 105, 3) := dk_180 0 105 (dk_at dksJ1_put_2_1 16 rfl rfl)
theorem dJ1_put_2_42 : decode cJ1_put_2 42 = .ok (.invokeinterface 117 3, 5) := by decide +kernel
theorem dJ1_put_2_47 : decode cJ1_put_2 47 = .ok (.istore 5, 2) := dk_54 5 (dk_at dksJ1_put_2_2 0 rfl rfl)
theorem dJ1_put_2_49 : decode cJ1_put_2 49 = .ok (.iload 5, 2) := dk_21 5 (dk_at dksJ1_put_2_2 2 rfl rfl)
theorem dJ1_put_2_51 : decode cJ1_put_2 51 = .ok (.ifCond .ge 13, 3) := dk_156 0 13 (dk_at dksJ1_put_2_2 4 rfl rfl)
theorem dJ1_put_2_54 : decode cJ1_put_2 54 = .ok (.aload 4, 2) := dk_25 4 (dk_at dksJ1_put_2_2 7 rfl rfl)
theorem dJ1_put_2_56 : decode cJ1_put_2 56 = .ok (.getfield 111, 3) := dk_180 0 111 (dk_at dksJ1_put_2_2 9 rfl rfl)
theorem dJ1_put_2_59 : decode cJ1_put_2 59 = .ok (.astore 4, 2) := dk_58 4 (dk_at dksJ1_put_2_2 12 rfl rfl)
theorem dJ1_put_2_61 : decode cJ1_put_2 61 = .ok (.goto 43, 3) := dk_167 0 43 (dk_at dksJ1_put_2_2 14 rfl rfl)
theorem dJ1_put_2_64 : decode cJ1_put_2 64 = .ok (.iload 5, 2) := dk_21 5 (dk_at dksJ1_put_2_2 17 rfl rfl)
theorem dJ1_put_2_66 : decode cJ1_put_2 66 = .ok (.ifCond .le 13, 3) := dk_158 0 13 (dk_at dksJ1_put_2_2 19 rfl rfl)
theorem dJ1_put_2_69 : decode cJ1_put_2 69 = .ok (.aload 4, 2) := dk_25 4 (dk_at dksJ1_put_2_2 22 rfl rfl)
theorem dJ1_put_2_71 : decode cJ1_put_2 71 = .ok (.getfield 114, 3) := dk_180 0 114 (dk_at dksJ1_put_2_3 0 rfl rfl)
theorem dJ1_put_2_74 : decode cJ1_put_2 74 = .ok (.astore 4, 2) := dk_58 4 (dk_at dksJ1_put_2_3 3 rfl rfl)
theorem dJ1_put_2_76 : decode cJ1_put_2 76 = .ok (.goto 28, 3) := dk_167 0 28 (dk_at dksJ1_put_2_3 5 rfl rfl)
theorem dJ1_put_2_79 : decode cJ1_put_2 79 = .ok (.aload 4, 2) := dk_25 4 (dk_at dksJ1_put_2_3 8 rfl rfl)
theorem dJ1_put_2_81 : decode cJ1_put_2 81 = .ok (.getfield 58, 3) := dk_180 0 58 (dk_at dksJ1_put_2_3 10 rfl rfl)
theorem dJ1_put_2_84 : decode cJ1_put_2 84 = .ok (.astore 8, 2) := dk_58 8 (dk_at dksJ1_put_2_3 13 rfl rfl)
theorem dJ1_put_2_86 : decode cJ1_put_2 86 = .ok (.iload_n 3, 1) := dk_29 (dk_at dksJ1_put_2_3 15 rfl rfl)
theorem dJ1_put_2_87 : decode cJ1_put_2 87 = .ok (.ifCond .ne 8, 3) := dk_154 0 8 (dk_at dksJ1_put_2_3 16 rfl rfl)
theorem dJ1_put_2_90 : decode cJ1_put_2 90 = .ok (.aload 8, 2) := dk_25 8 (dk_at dksJ1_put_2_3 19 rfl rfl)
theorem dJ1_put_2_92 : decode cJ1_put_2 92 = .ok (.ifnonnull 9, 3) := dk_199 0 9 (dk_at dksJ1_put_2_3 21 rfl rfl)
theorem dJ1_put_2_95 : decode cJ1_put_2 95 = .ok (.aload 4, 2) := dk_25 4 (dk_at dksJ1_put_2_4 0 rfl rfl)
theorem dJ1_put_2_97 : decode cJ1_put_2 97 = .ok (.aload_n 2, 1) := dk_44 (dk_at dksJ1_put_2_4 2 rfl rfl)
theorem dJ1_put_2_98 : decode cJ1_put_2 98 = .ok (.putfield 58, 3) := dk_181 0 58 (dk_at dksJ1_put_2_4 3 rfl rfl)
theorem dJ1_put_2_101 : decode cJ1_put_2 101 = .ok (.aload 8, 2) := dk_25 8 (dk_at dksJ1_put_2_4 6 rfl rfl)
theorem dJ1_put_2_103 : decode cJ1_put_2 103 = .ok (.areturn, 1) := dk_176 (dk_at dksJ1_put_2_4 8 rfl rfl)
theorem dJ1_put_2_104 : decode cJ1_put_2 104 = .ok (.aload 4, 2) := dk_25 4 (dk_at dksJ1_put_2_4 9 rfl rfl)
theorem dJ1_put_2_106 : decode cJ1_put_2 106 = .ok (.ifnonnull (-76), 3) := dk_199 255 180 (dk_at dksJ1_put_2_4 11 rfl rfl)
theorem dJ1_put_2_109 : decode cJ1_put_2 109 = .ok (.goto 92, 3) := dk_167 0 92 (dk_at dksJ1_put_2_4 14 rfl rfl)
theorem dJ1_put_2_112 : decode cJ1_put_2 112 = .ok (.aload_n 1, 1) := dk_43 (dk_at dksJ1_put_2_4 17 rfl rfl)
theorem dJ1_put_2_113 : decode cJ1_put_2 113 = .ok (.invokestatic 95, 3) := dk_184 0 95 (dk_at dksJ1_put_2_4 18 rfl rfl)
theorem dJ1_put_2_116 : decode cJ1_put_2 116 = .ok (.pop, 1) := dk_87 (dk_at dksJ1_put_2_4 21 rfl rfl)
theorem dJ1_put_2_117 : decode cJ1_put_2 117 = .ok (.aload_n 1, 1) := dk_43 (dk_at dksJ1_put_2_4 22 rfl rfl)
theorem dJ1_put_2_118 : decode cJ1_put_2 118 = .ok (.checkcast 99, 3) := dk_192 0 99 (dk_at dksJ1_put_2_5 0 rfl rfl)
theorem dJ1_put_2_121 : decode cJ1_put_2 121 = .ok (.astore 8, 2) := dk_58 8 (dk_at dksJ1_put_2_5 3 rfl rfl)
theorem dJ1_put_2_123 : decode cJ1_put_2 123 = .ok (.aload 4, 2) := dk_25 4 (dk_at dksJ1_put_2_5 5 rfl rfl)
theorem dJ1_put_2_125 : decode cJ1_put_2 125 = .ok (.astore 6, 2) := dk_58 6 (dk_at dksJ1_put_2_5 7 rfl rfl)
theorem dJ1_put_2_127 : decode cJ1_put_2 127 = .ok (.aload 8, 2) := dk_25 8 (dk_at dksJ1_put_2_5 9 rfl rfl)
theorem dJ1_put_2_129 : decode cJ1_put_2 129 = .ok (.aload 4, 2) := dk_25 4 (dk_at dksJ1_put_2_5 11 rfl rfl)
theorem dJ1_put_2_131 : decode cJ1_put_2 131 = .ok (.getfield 105, 3) := dk_180 0 105 (dk_at dksJ1_put_2_5 13 rfl rfl)
theorem dJ1_put_2_134 : decode cJ1_put_2 134 = .ok (.invokeinterface 107 2, 5) := by decide +kernel
theorem dJ1_put_2_139 : decode cJ1_put_2 139 = .ok (.istore 5, 2) := dk_54 5 (dk_at dksJ1_put_2_5 21 rfl rfl)
theorem dJ1_put_2_141 : decode cJ1_put_2 141 = .ok (.iload 5, 2) := dk_21 5 (dk_at dksJ1_put_2_6 0 rfl rfl)
theorem dJ1_put_2_143 : decode cJ1_put_2 143 = .ok (.ifCond .ge 13, 3) := dk_156 0 13 (dk_at dksJ1_put_2_6 2 rfl rfl)
theorem dJ1_put_2_146 : decode cJ1_put_2 146 = .ok (.aload 4, 2) := dk_25 4 (dk_at dksJ1_put_2_6 5 rfl rfl)
theorem dJ1_put_2_148 : decode cJ1_put_2 148 = .ok (.getfield 111, 3) := dk_180 0 111 (dk_at dksJ1_put_2_6 7 rfl rfl)
theorem dJ1_put_2_151 : decode cJ1_put_2 151 = .ok (.astore 4, 2) := dk_58 4 (dk_at dksJ1_put_2_6 10 rfl rfl)
theorem dJ1_put_2_153 : decode cJ1_put_2 153 = .ok (.goto 43, 3) := dk_167 0 43 (dk_at dksJ1_put_2_6 12 rfl rfl)
theorem dJ1_put_2_156 : decode cJ1_put_2 156 = .ok (.iload 5, 2) := dk_21 5 (dk_at dksJ1_put_2_6 15 rfl rfl)
theorem dJ1_put_2_158 : decode cJ1_put_2 158 = .ok (.ifCond .le 13, 3) := dk_158 0 13 (dk_at dksJ1_put_2_6 17 rfl rfl)
theorem dJ1_put_2_161 : decode cJ1_put_2 161 = .ok (.aload 4, 2) := dk_25 4 (dk_at dksJ1_put_2_6 20 rfl rfl)
theorem dJ1_put_2_163 : decode cJ1_put_2 163 = .ok (.getfield 114, 3) := dk_180 0 114 (dk_at dksJ1_put_2_7 0 rfl rfl)
theorem dJ1_put_2_166 : decode cJ1_put_2 166 = .ok (.astore 4, 2) := dk_58 4 (dk_at dksJ1_put_2_7 3 rfl rfl)
theorem dJ1_put_2_168 : decode cJ1_put_2 168 = .ok (.goto 28, 3) := dk_167 0 28 (dk_at dksJ1_put_2_7 5 rfl rfl)
theorem dJ1_put_2_171 : decode cJ1_put_2 171 = .ok (.aload 4, 2) := dk_25 4 (dk_at dksJ1_put_2_7 8 rfl rfl)
theorem dJ1_put_2_173 : decode cJ1_put_2 173 = .ok (.getfield 58, 3) := dk_180 0 58 (dk_at dksJ1_put_2_7 10 rfl rfl)
theorem dJ1_put_2_176 : decode cJ1_put_2 176 = .ok (.astore 9, 2) := dk_58 9 (dk_at dksJ1_put_2_7 13 rfl rfl)
theorem dJ1_put_2_178 : decode cJ1_put_2 178 = .ok (.iload_n 3, 1) := dk_29 (dk_at dksJ1_put_2_7 15 rfl rfl)
theorem dJ1_put_2_179 : decode cJ1_put_2 179 = .ok (.ifCond .ne 8, 3) := dk_154 0 8 (dk_at dksJ1_put_2_7 16 rfl rfl)
theorem dJ1_put_2_182 : decode cJ1_put_2 182 = .ok (.aload 9, 2) := dk_25 9 (dk_at dksJ1_put_2_7 19 rfl rfl)
theorem dJ1_put_2_184 : decode cJ1_put_2 184 = .ok (.ifnonnull 9, 3) := dk_199 0 9 (dk_at dksJ1_put_2_7 21 rfl rfl)
theorem dJ1_put_2_187 : decode cJ1_put_2 187 = .ok (.aload 4, 2) := dk_25 4 (dk_at dksJ1_put_2_8 0 rfl rfl)
theorem dJ1_put_2_189 : decode cJ1_put_2 189 = .ok (.aload_n 2, 1) := dk_44 (dk_at dksJ1_put_2_8 2 rfl rfl)
theorem dJ1_put_2_190 : decode cJ1_put_2 190 = .ok (.putfield 58, 3) := dk_181 0 58 (dk_at dksJ1_put_2_8 3 rfl rfl)
theorem dJ1_put_2_193 : decode cJ1_put_2 193 = .ok (.aload 9, 2) := dk_25 9 (dk_at dksJ1_put_2_8 6 rfl rfl)
theorem dJ1_put_2_195 : decode cJ1_put_2 195 = .ok (.areturn, 1) := dk_176 (dk_at dksJ1_put_2_8 8 rfl rfl)
theorem dJ1_put_2_196 : decode cJ1_put_2 196 = .ok (.aload 4, 2) := dk_25 4 (dk_at dksJ1_put_2_8 9 rfl rfl)
theorem dJ1_put_2_198 : decode cJ1_put_2 198 = .ok (.ifnonnull (-75), 3) := dk_199 255 181 (dk_at dksJ1_put_2_8 11 rfl rfl)
theorem dJ1_put_2_201 : decode cJ1_put_2 201 = .ok (.aload_n 0, 1) := dk_42 (dk_at dksJ1_put_2_8 14 rfl rfl)
theorem dJ1_put_2_202 : decode cJ1_put_2 202 = .ok (.aload_n 1, 1) := dk_43 (dk_at dksJ1_put_2_8 15 rfl rfl)
theorem dJ1_put_2_203 : decode cJ1_put_2 203 = .ok (.aload_n 2, 1) := dk_44 (dk_at dksJ1_put_2_8 16 rfl rfl)
theorem dJ1_put_2_204 : decode cJ1_put_2 204 = .ok (.aload 6, 2) := dk_25 6 (dk_at dksJ1_put_2_8 17 rfl rfl)
theorem dJ1_put_2_206 : decode cJ1_put_2 206 = .ok (.iload 5, 2) := dk_21 5 (dk_at dksJ1_put_2_8 19 rfl rfl)
theorem dJ1_put_2_208 : decode cJ1_put_2 208 = .ok (.ifCond .ge 7, 3) := dk_156 0 7 (dk_at dksJ1_put_2_8 21 rfl rfl)
theorem dJ1_put_2_211 : decode cJ1_put_2 211 = .ok (.iconst 1, 1) := dk_4 (dk_at dksJ1_put_2_9 0 rfl rfl)
theorem dJ1_put_2_212 : decode cJ1_put_2 212 = .ok (.goto 4, 3) := dk_167 0 4 (dk_at dksJ1_put_2_9 1 rfl rfl)
theorem dJ1_put_2_215 : decode cJ1_put_2 215 = .ok (.iconst 0, 1) := dk_3 (dk_at dksJ1_put_2_9 4 rfl rfl)
theorem dJ1_put_2_216 : decode cJ1_put_2 216 = .ok (.invokevirtual 139, 3) := dk_182 0 139 (dk_at dksJ1_put_2_9 5 rfl rfl)
theorem dJ1_put_2_219 : decode cJ1_put_2 219 = .ok (.aconst_null, 1) := dk_1 (dk_at dksJ1_put_2_9 8 rfl rfl)
theorem dJ1_put_2_220 : decode cJ1_put_2 220 = .ok (.areturn, 1) := dk_176 (dk_at dksJ1_put_2_9 9 rfl rfl)
set_option maxHeartbeats 4000000 in
theorem m_put2 (l : Launch) (hl : l.stackTraces = false) (g : GE) (A : Nat → Prop) (E : List Nat) (tm : Nat) (ka va : Nat → Nat) (lf rt pa : Nat → Option Nat) (co : Nat → Bool) (vl root : Option Nat) (n : Nat) (md : Int32) (h0 : AHT) (ix lo hi : Nat → Nat) (hI : Inv E ix lo hi lf rt pa root) (ht : tm ∉ E) (hb : ∀ r, root = some r → co r = true) (hn : n = E.length) (kk : Nat → Int32) (hkk : ∀ e, e ∈ E → isInt g (tmO E tm ka va lf rt pa co vl root n md h0) (ka e) (kk e)) (kr vr : Nat) (k : Int32) (hk : isInt g (tmO E tm ka va lf rt pa co vl root n md h0) kr k) (hgt : ∀ e, e ∈ E → kk e < k) : U_ l g A yJ1_put_2 6 1 6 [.ref tm, .ref kr, .ref vr, .int (nI 1)] (tmO E tm ka va lf rt pa co vl root n md h0) (fun v h' => v = some .null ∧ ∃ (q : Nat) (ix' lo' hi' : Nat → Nat) (lf' rt' pa' : Nat → Option Nat) (co' : Nat → Bool) (root' : Option Nat), (tmO E tm ka va lf rt pa co vl root n md h0) q = none ∧ Inv (E ++ [q]) ix' lo' hi' lf' rt' pa' root' ∧ (∀ r, root' = some r → co' r = true) ∧ tmO (E ++ [q]) tm (va_up ka q kr) (va_up va q vr) lf' rt' pa' co' vl root' (n + 1) (md + 1) h0 = h') noX := by
  refine U_.of (own := RJ1) (cc := cJ1_put_2) (L := 10) (ret := (some (Jvm.ClassFile.FieldType.object "java/lang/Object"))) hl rfl (plainFor_of_name (by decide)) ⟨by decide, by decide⟩ q1007 q85 (by decide) (fun e => absurd e (by decide)) (Nat.le_of_ble_eq_true rfl) (fun κ cx => ?_)
  show V g A κ _ _ 0 0 (tmO E tm ka va lf rt pa co vl root n md h0) 0 [(0, .ref tm), (1, .ref kr), (2, .ref vr), (3, .int (nI 1))] []
  rcases opt_c root with hrt | ⟨rt0, hrt⟩
  · have hE := List.eq_nil_of_length_eq_zero (hI.2.2.2.2.2.1 hrt)
    subst hE; subst hrt; subst hn
    show V g A κ _ _ 0 0 (tmO [] tm ka va lf rt pa co vl none 0 md h0) 0 [(0, .ref tm), (1, .ref kr), (2, .ref vr), (3, .int (nI 1))] []
    refine V.aload_n cx dJ1_put_2_0 rfl 0 rfl ?_
    refine V.get cx kJ1 (tm_t ht) 3 (by decide) q158 rfl rfl dJ1_put_2_1 ?_
    show V g A κ _ _ 0 0 (tmO [] tm ka va lf rt pa co vl none 0 md h0) 4 [(0, .ref tm), (1, .ref kr), (2, .ref vr), (3, .int (nI 1))] [.null]
    refine V.astoreN (lv' := [(4, .null), (0, .ref tm), (1, .ref kr), (2, .ref vr), (3, .int (nI 1))]) cx dJ1_put_2_4 (by decide) rfl ?_
    refine V.aloadN cx dJ1_put_2_6 0 rfl ?_
    refine V.ifnonnullN cx dJ1_put_2_8 ?_
    refine V.aload_n cx dJ1_put_2_11 rfl 1 rfl ?_
    refine V.aload_n cx dJ1_put_2_12 rfl 2 rfl ?_
    refine V.aload_n cx dJ1_put_2_13 rfl 3 rfl ?_
    refine V.callV (As := [.ref kr, .ref vr]) (rest := []) (C := "java/util/TreeMap") cx (m_addFirst l hl g A tm ka va lf rt pa co vl md h0 ht kr vr k hk) rfl q1008 q1010 qs6 (Rv.of kJ1 (tm_t ht)) (na := 2) rfl (by decide +kernel) (Nat.le_of_ble_eq_true rfl) (by decide) (by decide) (by decide) rfl dJ1_put_2_14 (fun _ _ _ hx => hx.elim) (fun v1 h2 hp => ?_)
    obtain ⟨rfl, hz⟩ := hp
    show V g A κ _ _ 1 6 h2 17 [(4, .null), (0, .ref tm), (1, .ref kr), (2, .ref vr), (3, .int (nI 1))] []
    refine V.null cx dJ1_put_2_17 ?_
    exact V.areturnN cx rfl (Or.inl ⟨_, rfl⟩) ⟨rfl, hz⟩ (by decide) (by decide) dJ1_put_2_18
  · have hr0E := (hI.2.2.2.2.2.2 rt0 hrt).1
    have hr0h := (hI.2.2.2.2.2.2 rt0 hrt).2.2.2
    subst hrt
    show V g A κ _ _ 0 0 (tmO E tm ka va lf rt pa co vl (some rt0) n md h0) 0 [(0, .ref tm), (1, .ref kr), (2, .ref vr), (3, .int (nI 1))] []
    refine V.aload_n cx dJ1_put_2_0 rfl 0 rfl ?_
    refine V.get cx kJ1 (tm_t ht) 3 (by decide) q158 rfl rfl dJ1_put_2_1 ?_
    show V g A κ _ _ 0 0 (tmO E tm ka va lf rt pa co vl (some rt0) n md h0) 4 [(0, .ref tm), (1, .ref kr), (2, .ref vr), (3, .int (nI 1))] [.ref rt0]
    refine V.astore (lv' := [(4, .ref rt0), (0, .ref tm), (1, .ref kr), (2, .ref vr), (3, .int (nI 1))]) cx dJ1_put_2_4 (by decide) rfl ?_
    refine V.aload cx dJ1_put_2_6 0 rfl ?_
    refine V.ifnonnull (tgt := 19) cx dJ1_put_2_8 (by decide) ?_
    refine V.aload_n cx dJ1_put_2_19 rfl 1 rfl ?_
    refine V.get cx kJ1 (tm_t ht) 2 (by decide) q157 rfl rfl dJ1_put_2_20 ?_
    show V g A κ _ _ 0 0 (tmO E tm ka va lf rt pa co vl (some rt0) n md h0) 23 [(4, .ref rt0), (0, .ref tm), (1, .ref kr), (2, .ref vr), (3, .int (nI 1))] [.null]
    refine V.astoreN (lv' := [(7, .null), (4, .ref rt0), (0, .ref tm), (1, .ref kr), (2, .ref vr), (3, .int (nI 1))]) cx dJ1_put_2_23 (by decide) rfl ?_
    refine V.aloadN cx dJ1_put_2_25 0 rfl ?_
    refine V.ifnullN (tgt := 112) cx dJ1_put_2_27 (by decide) ?_
    refine V.aload_n cx dJ1_put_2_112 rfl 3 rfl ?_
    refine V.callS (As := [.ref kr]) (rest := []) cx (m_reqNN l hl g A (tmO E tm ka va lf rt pa co vl (some rt0) n md h0) kr) q683 q684 (na := 1) rfl (by decide +kernel) (Nat.le_of_ble_eq_true rfl) (by decide) (by decide) (by decide) rfl dJ1_put_2_113 (fun _ _ _ hx => hx.elim) (fun v3 h4 hp => ?_)
    obtain ⟨rfl, rfl⟩ := hp
    show V g A κ _ _ 0 0 (tmO E tm ka va lf rt pa co vl (some rt0) n md h0) 116 [(7, .null), (4, .ref rt0), (0, .ref tm), (1, .ref kr), (2, .ref vr), (3, .int (nI 1))] [.ref kr]
    refine V.pop cx dJ1_put_2_116 rfl ?_
    refine V.aload_n cx dJ1_put_2_117 rfl 3 rfl ?_
    refine V.castY cx (C := "java/lang/Integer") hk.rv q686 q709 dJ1_put_2_118 ?_
    refine V.astore (lv' := [(8, .ref kr), (7, .null), (4, .ref rt0), (0, .ref tm), (1, .ref kr), (2, .ref vr), (3, .int (nI 1))]) cx dJ1_put_2_121 (by decide) rfl ?_
    refine V.sub [3, 4, 5, 6, 2, 1, 0] rfl ?_
    refine V.loop (α := (Nat)) (fun z9_ => hi (z9_) - lo (z9_)) (fun z9_ => (z9_) ∈ E ∧ hi (z9_) = E.length) (fun z9_ => 0) (fun z9_ => 0) (fun z9_ => (tmO E tm ka va lf rt pa co vl (some rt0) n md h0)) (fun z9_ => [(0, .ref tm), (1, .ref kr), (2, .ref vr), (3, .int (nI 1)), (4, .ref (z9_)), (7, .null), (8, .ref kr)]) (fun z9_ => []) (fun x_ hP_ ih_ => ?_) rt0 ⟨hr0E, hr0h⟩
    obtain ⟨hx, hh⟩ := hP_
    show V g A κ _ _ 0 0 (tmO E tm ka va lf rt pa co vl (some rt0) n md h0) 123 [(0, .ref tm), (1, .ref kr), (2, .ref vr), (3, .int (nI 1)), (4, .ref x_), (7, .null), (8, .ref kr)] []
    refine V.aload cx dJ1_put_2_123 4 rfl ?_
    refine V.astore (lv' := [(6, .ref x_), (0, .ref tm), (1, .ref kr), (2, .ref vr), (3, .int (nI 1)), (4, .ref x_), (7, .null), (8, .ref kr)]) cx dJ1_put_2_125 (by decide) rfl ?_
    refine V.aload cx dJ1_put_2_127 7 rfl ?_
    refine V.aload cx dJ1_put_2_129 5 rfl ?_
    refine V.get cx kJ25 (tm_e hx) 0 (by decide) q1023 rfl rfl dJ1_put_2_131 ?_
    show V g A κ _ _ 0 0 (tmO E tm ka va lf rt pa co vl (some rt0) n md h0) 134 [(6, .ref x_), (0, .ref tm), (1, .ref kr), (2, .ref vr), (3, .int (nI 1)), (4, .ref x_), (7, .null), (8, .ref kr)] [.ref (ka x_), .ref kr]
    refine V.callF (As := [.ref (ka x_)]) (rest := []) (x := ⟨"java/lang/Comparable", "compareTo", "(Ljava/lang/Object;)I"⟩) cx (m_compareTo l hl g A (tmO E tm ka va lf rt pa co vl (some rt0) n md h0) kr (ka x_) k (kk x_) hk (hkk x_ hx)) kJ18 hk.rv q688 q710 q712 (by decide) (na := 1) rfl (by decide +kernel) (Nat.le_of_ble_eq_true rfl) (by decide) (by decide) (by decide) rfl dJ1_put_2_134 (fun _ _ _ hx => hx.elim) (fun v5 h6 hp => ?_)
    obtain ⟨rfl, rfl⟩ := hp
    show V g A κ _ _ 0 0 (tmO E tm ka va lf rt pa co vl (some rt0) n md h0) 139 [(6, .ref x_), (0, .ref tm), (1, .ref kr), (2, .ref vr), (3, .int (nI 1)), (4, .ref x_), (7, .null), (8, .ref kr)] [.int (cmpI k (kk x_))]
    refine V.toi (y := nI 1) (by rw [cmpI_1 (hgt x_ hx)]; rfl) ?_
    refine V.istore (lv' := [(5, .int (nI 1)), (6, .ref x_), (0, .ref tm), (1, .ref kr), (2, .ref vr), (3, .int (nI 1)), (4, .ref x_), (7, .null), (8, .ref kr)]) cx dJ1_put_2_139 (by decide) rfl ?_
    refine V.iload cx dJ1_put_2_141 0 rfl ?_
    refine V.nif_ge (a := 1) (tgt := 156) cx (by decide) dJ1_put_2_143 (by decide) ?_
    refine V.iload cx dJ1_put_2_156 0 rfl ?_
    refine V.nif_le (a := 1) (tgt := 171) cx (by decide) dJ1_put_2_158 (by decide) (fun c1 => ?_) (fun c1 => ?_)
    · exact absurd c1 (by decide)
    · rcases opt_c (rt x_) with hr | ⟨r, hr⟩
      · refine V.aload cx dJ1_put_2_161 6 rfl ?_
        refine V.get cx kJ25 (tm_e hx) 3 (by decide) q1028 rfl rfl dJ1_put_2_163 ?_
        refine V.toq (o' := none) (by rw [hr]) ?_
        show V g A κ _ _ 0 0 (tmO E tm ka va lf rt pa co vl (some rt0) n md h0) 166 [(5, .int (nI 1)), (6, .ref x_), (0, .ref tm), (1, .ref kr), (2, .ref vr), (3, .int (nI 1)), (4, .ref x_), (7, .null), (8, .ref kr)] [.null]
        refine V.astoreN (lv' := [(4, .null), (5, .int (nI 1)), (6, .ref x_), (0, .ref tm), (1, .ref kr), (2, .ref vr), (3, .int (nI 1)), (7, .null), (8, .ref kr)]) cx dJ1_put_2_166 (by decide) rfl ?_
        refine V.goto (tgt := 196) cx dJ1_put_2_168 (by decide) ?_
        refine V.aloadN cx dJ1_put_2_196 0 rfl ?_
        refine V.ifnonnullN cx dJ1_put_2_198 ?_
        refine V.aload_n cx dJ1_put_2_201 rfl 3 rfl ?_
        refine V.aload_n cx dJ1_put_2_202 rfl 4 rfl ?_
        refine V.aload_n cx dJ1_put_2_203 rfl 5 rfl ?_
        refine V.aload cx dJ1_put_2_204 2 rfl ?_
        refine V.iload cx dJ1_put_2_206 1 rfl ?_
        refine V.nif_ge (a := 1) (tgt := 215) cx (by decide) dJ1_put_2_208 (by decide) ?_
        refine V.iconst (v := (nI 0)) cx dJ1_put_2_215 (by decide) ?_
        refine V.callV (As := [.ref kr, .ref vr, .ref x_, .int (nI 0)]) (rest := []) (C := "java/util/TreeMap") cx (m_addEntry l hl g A E tm ka va lf rt pa co vl (some rt0) n md h0 ix lo hi hI ht hb kr vr x_ hx hr hh) rfl q1046 q1048 qs7 (Rv.of kJ1 (tm_t ht)) (na := 4) rfl (by decide +kernel) (Nat.le_of_ble_eq_true rfl) (by decide) (by decide) (by decide) rfl dJ1_put_2_216 (fun _ _ _ hx => hx.elim) (fun v7 h8 hp => ?_)
        obtain ⟨rfl, hz⟩ := hp
        show V g A κ _ _ 1 6 h8 219 [(4, .null), (5, .int (nI 1)), (6, .ref x_), (0, .ref tm), (1, .ref kr), (2, .ref vr), (3, .int (nI 1)), (7, .null), (8, .ref kr)] []
        refine V.null cx dJ1_put_2_219 ?_
        exact V.areturnN cx rfl (Or.inl ⟨_, rfl⟩) ⟨rfl, hz⟩ (by decide) (by decide) dJ1_put_2_220
      · refine V.aload cx dJ1_put_2_161 6 rfl ?_
        refine V.get cx kJ25 (tm_e hx) 3 (by decide) q1028 rfl rfl dJ1_put_2_163 ?_
        refine V.toq (o' := (some r)) (by rw [hr]) ?_
        show V g A κ _ _ 0 0 (tmO E tm ka va lf rt pa co vl (some rt0) n md h0) 166 [(5, .int (nI 1)), (6, .ref x_), (0, .ref tm), (1, .ref kr), (2, .ref vr), (3, .int (nI 1)), (4, .ref x_), (7, .null), (8, .ref kr)] [.ref r]
        refine V.astore (lv' := [(4, .ref r), (5, .int (nI 1)), (6, .ref x_), (0, .ref tm), (1, .ref kr), (2, .ref vr), (3, .int (nI 1)), (7, .null), (8, .ref kr)]) cx dJ1_put_2_166 (by decide) rfl ?_
        refine V.goto (tgt := 196) cx dJ1_put_2_168 (by decide) ?_
        refine V.aload cx dJ1_put_2_196 0 rfl ?_
        refine V.ifnonnull (tgt := 123) cx dJ1_put_2_198 (by decide) ?_
        have h3 := (hI.2.2.2.1 x_ hx).2 r hr
        have h4 := hI.2.1 x_ hx
        refine V.sub [3, 4, 5, 6, 0, 7, 8] rfl ?_
        exact ih_ r (by omega) ⟨h3.1, by omega⟩
abbrev cJ1_put : ByteArray := prog_68_method_21_code
def yJ1_put : MethodName := ⟨RJ1, "put", "(Ljava/lang/Object;Ljava/lang/Object;)Ljava/lang/Object;"⟩
def dkwJ1_put_0 : List UInt8 := [42, 43, 44, 4, 182, 0, 127, 176]
abbrev dktJ1_put_0 : List UInt8 := dkwJ1_put_0 ++ []
theorem dksJ1_put_0 : cJ1_put.data.toList.drop 0 = dktJ1_put_0 := by decide +kernel
theorem dJ1_put_0 : decode cJ1_put 0 = .ok (.aload_n 0, 1) := dk_42 (dk_at dksJ1_put_0 0 rfl rfl)
theorem dJ1_put_1 : decode cJ1_put 1 = .ok (.aload_n 1, 1) := dk_43 (dk_at dksJ1_put_0 1 rfl rfl)
theorem dJ1_put_2 : decode cJ1_put 2 = .ok (.aload_n 2, 1) := dk_44 (dk_at dksJ1_put_0 2 rfl rfl)
theorem dJ1_put_3 : decode cJ1_put 3 = .ok (.iconst 1, 1) := dk_4 (dk_at dksJ1_put_0 3 rfl rfl)
theorem dJ1_put_4 : decode cJ1_put 4 = .ok (.invokevirtual 127, 3) := dk_182 0 127 (dk_at dksJ1_put_0 4 rfl rfl)
theorem dJ1_put_7 : decode cJ1_put 7 = .ok (.areturn, 1) := dk_176 (dk_at dksJ1_put_0 7 rfl rfl)
set_option maxHeartbeats 4000000 in
theorem m_put (l : Launch) (hl : l.stackTraces = false) (g : GE) (A : Nat → Prop) (E : List Nat) (tm : Nat) (ka va : Nat → Nat) (lf rt pa : Nat → Option Nat) (co : Nat → Bool) (vl root : Option Nat) (n : Nat) (md : Int32) (h0 : AHT) (ix lo hi : Nat → Nat) (hI : Inv E ix lo hi lf rt pa root) (ht : tm ∉ E) (hb : ∀ r, root = some r → co r = true) (hn : n = E.length) (kk : Nat → Int32) (hkk : ∀ e, e ∈ E → isInt g (tmO E tm ka va lf rt pa co vl root n md h0) (ka e) (kk e)) (kr vr : Nat) (k : Int32) (hk : isInt g (tmO E tm ka va lf rt pa co vl root n md h0) kr k) (hgt : ∀ e, e ∈ E → kk e < k) : U_ l g A yJ1_put 7 1 6 [.ref tm, .ref kr, .ref vr] (tmO E tm ka va lf rt pa co vl root n md h0) (fun v h' => v = some .null ∧ ∃ (q : Nat) (ix' lo' hi' : Nat → Nat) (lf' rt' pa' : Nat → Option Nat) (co' : Nat → Bool) (root' : Option Nat), (tmO E tm ka va lf rt pa co vl root n md h0) q = none ∧ Inv (E ++ [q]) ix' lo' hi' lf' rt' pa' root' ∧ (∀ r, root' = some r → co' r = true) ∧ tmO (E ++ [q]) tm (va_up ka q kr) (va_up va q vr) lf' rt' pa' co' vl root' (n + 1) (md + 1) h0 = h') noX := by
  refine U_.of (own := RJ1) (cc := cJ1_put) (L := 3) (ret := (some (Jvm.ClassFile.FieldType.object "java/lang/Object"))) hl rfl (plainFor_of_name (by decide)) ⟨by decide, by decide⟩ q1003 q85 (by decide) (fun e => absurd e (by decide)) (Nat.le_of_ble_eq_true rfl) (fun κ cx => ?_)
  show V g A κ _ _ 0 0 (tmO E tm ka va lf rt pa co vl root n md h0) 0 [(0, .ref tm), (1, .ref kr), (2, .ref vr)] []
  refine V.aload_n cx dJ1_put_0 rfl 0 rfl ?_
  refine V.aload_n cx dJ1_put_1 rfl 1 rfl ?_
  refine V.aload_n cx dJ1_put_2 rfl 2 rfl ?_
  refine V.iconst (v := (nI 1)) cx dJ1_put_3 (by decide) ?_
  refine V.callV (As := [.ref kr, .ref vr, .int (nI 1)]) (rest := []) (C := "java/util/TreeMap") cx (m_put2 l hl g A E tm ka va lf rt pa co vl root n md h0 ix lo hi hI ht hb hn kk hkk kr vr k hk hgt) rfl q1004 q1006 qs5 (Rv.of kJ1 (tm_t ht)) (na := 3) rfl (by decide +kernel) (Nat.le_of_ble_eq_true rfl) (by decide) (by decide) (by decide) rfl dJ1_put_4 (fun _ _ _ hx => hx.elim) (fun v1 h2 hp => ?_)
  obtain ⟨rfl, hz⟩ := hp
  show V g A κ _ _ 1 6 h2 7 [(0, .ref tm), (1, .ref kr), (2, .ref vr)] [.null]
  exact V.areturnN cx rfl (Or.inl ⟨_, rfl⟩) ⟨rfl, hz⟩ (by decide) (by decide) dJ1_put_7
