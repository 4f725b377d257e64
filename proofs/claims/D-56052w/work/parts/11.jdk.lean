/-! JDK: Number, Integer, Math -/
set_option maxRecDepth 100000
/-- the object a is the Integer n -/
def isInt (g : GE) (h : AHT) (a : Nat) (n : Int32) : Prop := h a = some (ob 18 [.int n]) ∨ ∃ F, g.ro a = some ("java/lang/Integer", F) ∧ ("java/lang/Integer", "value", "I", .int n) ∈ F
theorem isInt.off {g : GE} {S : List Nat} {h h' : AHT} {a : Nat} {n : Int32} (hi : isInt g h a n) (o : Off S h h') (hs : a ∉ S) : isInt g h' a n := hi.imp (fun e => o a _ hs e) id
theorem isInt.ext {g : GE} {h h' : AHT} {a : Nat} {n : Int32} (hi : isInt g h a n) (o : Ext h h') : isInt g h' a n := hi.imp (fun e => o a _ e) id
theorem isInt.rv {g : GE} {h : AHT} {a : Nat} {n : Int32} (hi : isInt g h a n) : Rv g h a "java/lang/Integer" := by
  rcases hi with e | ⟨F, e, -⟩
  · exact Rv.of kJ18 e
  · exact Or.inr ⟨F, e⟩
def cmpI (x y : Int32) : Int32 := if y ≤ x then (if x = y then 0 else 1) else -1
abbrev cJ17_init : ByteArray := prog_33_method_1_code
def yJ17_init : MethodName := ⟨RJ17, "<init>", "()V"⟩
theorem dJ17_init_0 : decode cJ17_init 0 = .ok (.aload_n 0, 1) := by decide +kernel
theorem dJ17_init_1 : decode cJ17_init 1 = .ok (.invokespecial 1, 3) := by decide +kernel
theorem dJ17_init_4 : decode cJ17_init 4 = .ok (.return_, 1) := by decide +kernel
set_option maxHeartbeats 4000000 in
theorem m_numInit (l : Launch) (hl : l.stackTraces = false) (g : GE) (A : Nat → Prop) (h : AHT) (a : Nat) : U_ l g A yJ17_init 2 0 0 [.ref a] h (fun v h' => v = none ∧ h = h') noX := by
  refine U_.of (own := RJ17) (cc := cJ17_init) (L := 1) (ret := (none)) hl rfl (plainFor_of_name (by decide)) ⟨by decide, by decide⟩ q661 q104 (by decide) (fun _ => rfl) (Nat.le_of_ble_eq_true rfl) (fun κ cx => ?_)
  show V g A κ _ _ 0 0 h 0 [(0, .ref a)] []
  refine V.aload_n cx dJ17_init_0 rfl 0 rfl ?_
  refine V.objInit cx q662 q140 q141 (by decide) (Nat.le_of_ble_eq_true rfl) dJ17_init_1 ?_
  exact V.vreturn cx rfl ⟨rfl, rfl⟩ (by decide) (by decide) dJ17_init_4
abbrev cJ18_init : ByteArray := prog_28_method_23_code
def yJ18_init : MethodName := ⟨RJ18, "<init>", "(I)V"⟩
def dkwJ18_init_0 : List UInt8 := [42, 183, 0, 202, 42, 27, 181, 0, 205, 177]
abbrev dktJ18_init_0 : List UInt8 := dkwJ18_init_0 ++ []
theorem dksJ18_init_0 : cJ18_init.data.toList.drop 0 = dktJ18_init_0 := by decide +kernel
theorem dJ18_init_0 : decode cJ18_init 0 = .ok (.aload_n 0, 1) := dk_42 (dk_at dksJ18_init_0 0 rfl rfl)
theorem dJ18_init_1 : decode cJ18_init 1 = .ok (.invokespecial 202, 3) := dk_183 0 202 (dk_at dksJ18_init_0 1 rfl rfl)
theorem dJ18_init_4 : decode cJ18_init 4 = .ok (.aload_n 0, 1) := dk_42 (dk_at dksJ18_init_0 4 rfl rfl)
theorem dJ18_init_5 : decode cJ18_init 5 = .ok (.iload_n 1, 1) := dk_27 (dk_at dksJ18_init_0 5 rfl rfl)
theorem dJ18_init_6 : decode cJ18_init 6 = .ok (.putfield 205, 3) := dk_181 0 205 (dk_at dksJ18_init_0 6 rfl rfl)
theorem dJ18_init_9 : decode cJ18_init 9 = .ok (.return_, 1) := dk_177 (dk_at dksJ18_init_0 9 rfl rfl)
set_option maxHeartbeats 4000000 in
theorem m_intInit (l : Launch) (hl : l.stackTraces = false) (g : GE) (A : Nat → Prop) (h : AHT) (a : Nat) (x n : Int32) (ha : h a = some (ob 18 [.int x])) : U_ l g A yJ18_init 3 0 0 [.ref a, .int n] h (fun v h' => v = none ∧ up h a (ob 18 [.int n]) = h') noX := by
  refine U_.of (own := RJ18) (cc := cJ18_init) (L := 2) (ret := (none)) hl rfl (plainFor_of_name (by decide)) ⟨by decide, by decide⟩ q658 q105 (by decide) (fun _ => rfl) (Nat.le_of_ble_eq_true rfl) (fun κ cx => ?_)
  show V g A κ _ _ 0 0 h 0 [(0, .ref a), (1, .int n)] []
  refine V.aload_n cx dJ18_init_0 rfl 0 rfl ?_
  refine V.callI (As := []) (rest := []) cx (m_numInit l hl g A h a) q659 q660 rfl (na := 0) rfl (by decide +kernel) (Nat.le_of_ble_eq_true rfl) (by decide) (by decide) (by decide) rfl dJ18_init_1 (fun _ _ _ hx => hx.elim) (fun v1 h2 hp => ?_)
  obtain ⟨rfl, rfl⟩ := hp
  show V g A κ _ _ 0 0 h 4 [(0, .ref a), (1, .int n)] []
  refine V.aload_n cx dJ18_init_4 rfl 0 rfl ?_
  refine V.iload_n cx dJ18_init_5 rfl 1 rfl ?_
  refine V.putF (ty := tyJ18 0) cx kJ18 ha 0 (by decide) rfl rfl rfl (tyJ18_ok 0 (by decide)) rfl rfl (Nat.le_of_ble_eq_true rfl) q663 rfl dJ18_init_6 ?_
  show V g A κ _ _ 0 0 (up h a (ob 18 [.int n])) 9 [(0, .ref a), (1, .int n)] []
  exact V.vreturn cx rfl ⟨rfl, rfl⟩ (by decide) (by decide) dJ18_init_9
abbrev cJ18_valueOf : ByteArray := prog_28_method_22_code
def yJ18_valueOf : MethodName := ⟨RJ18, "valueOf", "(I)Ljava/lang/Integer;"⟩
def dkwJ18_valueOf_1 : List UInt8 := [187, 0, 1, 89, 26, 183, 0, 199, 176]
abbrev dktJ18_valueOf_1 : List UInt8 := dkwJ18_valueOf_1 ++ []
def dkwJ18_valueOf_0 : List UInt8 := [26, 16, 128, 161, 0, 20, 26, 178, 0, 191, 163, 0, 13, 178, 0, 195, 26, 17, 0, 128, 96, 50, 176]
abbrev dktJ18_valueOf_0 : List UInt8 := dkwJ18_valueOf_0 ++ dktJ18_valueOf_1
theorem dksJ18_valueOf_0 : cJ18_valueOf.data.toList.drop 0 = dktJ18_valueOf_0 := by decide +kernel
theorem dksJ18_valueOf_1 : cJ18_valueOf.data.toList.drop 23 = dktJ18_valueOf_1 := dk_seg dksJ18_valueOf_0 23 rfl rfl
theorem dJ18_valueOf_0 : decode cJ18_valueOf 0 = .ok (.iload_n 0, 1) := dk_26 (dk_at dksJ18_valueOf_0 0 rfl rfl)
theorem dJ18_valueOf_1 : decode cJ18_valueOf 1 = .ok (.bipush (-128), 2) := dk_16 128 (dk_at dksJ18_valueOf_0 1 rfl rfl)
theorem dJ18_valueOf_3 : decode cJ18_valueOf 3 = .ok (.if_icmp .lt 20, 3) := dk_161 0 20 (dk_at dksJ18_valueOf_0 3 rfl rfl)
theorem dJ18_valueOf_6 : decode cJ18_valueOf 6 = .ok (.iload_n 0, 1) := dk_26 (dk_at dksJ18_valueOf_0 6 rfl rfl)
theorem dJ18_valueOf_7 : decode cJ18_valueOf 7 = .ok (.getstatic 191, 3) := dk_178 0 191 (dk_at dksJ18_valueOf_0 7 rfl rfl)
theorem dJ18_valueOf_10 : decode cJ18_valueOf 10 = .ok (.if_icmp .gt 13, 3) := dk_163 0 13 (dk_at dksJ18_valueOf_0 10 rfl rfl)
theorem dJ18_valueOf_13 : decode cJ18_valueOf 13 = .ok (.getstatic 195, 3) := dk_178 0 195 (dk_at dksJ18_valueOf_0 13 rfl rfl)
theorem dJ18_valueOf_16 : decode cJ18_valueOf 16 = .ok (.iload_n 0, 1) := dk_26 (dk_at dksJ18_valueOf_0 16 rfl rfl)
theorem dJ18_valueOf_17 : decode cJ18_valueOf 17 = .ok (.sipush 128, 3) := dk_17 0 128 (dk_at dksJ18_valueOf_0 17 rfl rfl)
theorem dJ18_valueOf_20 : decode cJ18_valueOf 20 = .ok (.iadd, 1) := dk_96 (dk_at dksJ18_valueOf_0 20 rfl rfl)
theorem dJ18_valueOf_21 : decode cJ18_valueOf 21 = .ok (.aaload, 1) := dk_50 (dk_at dksJ18_valueOf_0 21 rfl rfl)
theorem dJ18_valueOf_22 : decode cJ18_valueOf 22 = .ok (.areturn, 1) := dk_176 (dk_at dksJ18_valueOf_0 22 rfl rfl)
theorem dJ18_valueOf_23 : decode cJ18_valueOf 23 = .ok (.new 1, 3) := dk_187 0 1 (dk_at dksJ18_valueOf_1 0 rfl rfl)
theorem dJ18_valueOf_26 : decode cJ18_valueOf 26 = .ok (.dup, 1) := dk_89 (dk_at dksJ18_valueOf_1 3 rfl rfl)
theorem dJ18_valueOf_27 : decode cJ18_valueOf 27 = .ok (.iload_n 0, 1) := dk_26 (dk_at dksJ18_valueOf_1 4 rfl rfl)
theorem dJ18_valueOf_28 : decode cJ18_valueOf 28 = .ok (.invokespecial 199, 3) := dk_183 0 199 (dk_at dksJ18_valueOf_1 5 rfl rfl)
theorem dJ18_valueOf_31 : decode cJ18_valueOf 31 = .ok (.areturn, 1) := dk_176 (dk_at dksJ18_valueOf_1 8 rfl rfl)
set_option maxHeartbeats 4000000 in
theorem m_valueOf (l : Launch) (hl : l.stackTraces = false) (g : GE) (A : Nat → Prop) (h : AHT) (n : Int32) : U_ l g A yJ18_valueOf 4 1 1 [.int n] h (fun v h' => ∃ a, v = some (.ref a) ∧ isInt g h' a n ∧ Ext h h') noX := by
  refine U_.of (own := RJ18) (cc := cJ18_valueOf) (L := 1) (ret := (some (Jvm.ClassFile.FieldType.object "java/lang/Integer"))) hl rfl (plainFor_of_name (by decide)) ⟨by decide, by decide⟩ q649 q105 (by decide) (fun e => absurd e (by decide)) (Nat.le_of_ble_eq_true rfl) (fun κ cx => ?_)
  show V g A κ _ _ 0 0 h 0 [(0, .int n)] []
  refine V.iload_n cx dJ18_valueOf_0 rfl 0 rfl ?_
  refine V.bipush (v := (-128)) cx dJ18_valueOf_1 (by decide) ?_
  refine V.icmp_lt (tgt := 23) cx dJ18_valueOf_3 (by decide) (fun c_3 => ?_) (fun c_3 => ?_)
  · refine V.new (fs := [.int 0]) cx kJ18 q654 q655 q105 (fun j hj => by rcases (show j = 0 by omega) with rfl <;> rfl) (by decide) (by decide) dJ18_valueOf_23 (fun q1 hn_q1 => ?_)
    refine V.dup cx dJ18_valueOf_26 rfl ?_
    refine V.iload_n cx dJ18_valueOf_27 rfl 0 rfl ?_
    refine V.callI (As := [.int n]) (rest := [.ref q1]) cx (m_intInit l hl g A _ q1 _ n up_s) q656 q657 rfl (na := 1) rfl (by decide +kernel) (Nat.le_of_ble_eq_true rfl) (by decide) (by decide) (by decide) rfl dJ18_valueOf_28 (fun _ _ _ hx => hx.elim) (fun v2 h3 hp => ?_)
    obtain ⟨rfl, rfl⟩ := hp
    show V g A κ _ _ 1 1 (up (up h q1 (ob 18 [.int 0])) q1 (ob 18 [.int n])) 31 [(0, .int n)] [.ref q1]
    exact V.areturn cx rfl (Or.inl ⟨_, rfl⟩) ⟨q1, rfl, Or.inl up_s, Off.ext ((Off.rf.new hn_q1).upn hn_q1)⟩ (by decide) (by decide) dJ18_valueOf_31
  · refine V.iload_n cx dJ18_valueOf_6 rfl 0 rfl ?_
    refine V.gets (C := "java/lang/Integer$IntegerCache") (v := .int 127) cx (by simp [zs]) q650 rfl dJ18_valueOf_7 ?_
    refine V.icmp_gt (tgt := 23) cx dJ18_valueOf_10 (by decide) (fun c_10 => ?_) (fun c_10 => ?_)
    · refine V.new (fs := [.int 0]) cx kJ18 q654 q655 q105 (fun j hj => by rcases (show j = 0 by omega) with rfl <;> rfl) (by decide) (by decide) dJ18_valueOf_23 (fun q4 hn_q4 => ?_)
      refine V.dup cx dJ18_valueOf_26 rfl ?_
      refine V.iload_n cx dJ18_valueOf_27 rfl 0 rfl ?_
      refine V.callI (As := [.int n]) (rest := [.ref q4]) cx (m_intInit l hl g A _ q4 _ n up_s) q656 q657 rfl (na := 1) rfl (by decide +kernel) (Nat.le_of_ble_eq_true rfl) (by decide) (by decide) (by decide) rfl dJ18_valueOf_28 (fun _ _ _ hx => hx.elim) (fun v5 h6 hp => ?_)
      obtain ⟨rfl, rfl⟩ := hp
      show V g A κ _ _ 1 1 (up (up h q4 (ob 18 [.int 0])) q4 (ob 18 [.int n])) 31 [(0, .int n)] [.ref q4]
      exact V.areturn cx rfl (Or.inl ⟨_, rfl⟩) ⟨q4, rfl, Or.inl up_s, Off.ext ((Off.rf.new hn_q4).upn hn_q4)⟩ (by decide) (by decide) dJ18_valueOf_31
    · obtain ⟨j, hj, e1, e2⟩ := bx_small c_3 c_10
      refine V.gets (C := "java/lang/Integer$IntegerCache") (v := .ref (g.ad 4 0)) cx (by simp [zs]) q652 rfl dJ18_valueOf_13 ?_
      refine V.iload_n cx dJ18_valueOf_16 rfl 0 rfl ?_
      refine V.sipush (v := (nI 128)) cx dJ18_valueOf_17 (by decide) ?_
      refine V.iadd cx dJ18_valueOf_20 ?_
      refine V.toi (y := nI j) e1 ?_
      refine V.aaloadR (j := j) cx cx.gok.2.2.1 rfl (by omega) (by decide) dJ18_valueOf_21 ?_
      show V g A κ _ _ 0 0 h 22 [(0, .int n)] [.ref (g.ad 1 j)]
      exact V.areturn cx rfl (Or.inl ⟨_, rfl⟩) ⟨_, rfl, Or.inr ⟨_, cx.gok.2.1 j hj, by rw [e2]; exact List.mem_cons_self⟩, Ext.rf⟩ (by decide) (by decide) dJ18_valueOf_22
abbrev cJ18_intValue : ByteArray := prog_28_method_27_code
def yJ18_intValue : MethodName := ⟨RJ18, "intValue", "()I"⟩
theorem dJ18_intValue_0 : decode cJ18_intValue 0 = .ok (.aload_n 0, 1) := by decide +kernel
theorem dJ18_intValue_1 : decode cJ18_intValue 1 = .ok (.getfield 205, 3) := by decide +kernel
theorem dJ18_intValue_4 : decode cJ18_intValue 4 = .ok (.ireturn, 1) := by decide +kernel
set_option maxHeartbeats 4000000 in
theorem m_intValue (l : Launch) (hl : l.stackTraces = false) (g : GE) (A : Nat → Prop) (h : AHT) (a : Nat) (n : Int32) (ha : isInt g h a n) : U_ l g A yJ18_intValue 1 0 0 [.ref a] h (fun v h' => v = some (.int n) ∧ h = h') noX := by
  refine U_.of (own := RJ18) (cc := cJ18_intValue) (L := 1) (ret := (some Jvm.ClassFile.FieldType.int)) hl rfl (plainFor_of_name (by decide)) ⟨by decide, by decide⟩ q1798 q105 (by decide) (fun e => absurd e (by decide)) (Nat.le_of_ble_eq_true rfl) (fun κ cx => ?_)
  show V g A κ _ _ 0 0 h 0 [(0, .ref a)] []
  rcases ha with ha | ⟨F, ha, hF⟩
  · refine V.aload_n cx dJ18_intValue_0 rfl 0 rfl ?_
    refine V.get cx kJ18 ha 0 (by decide) q663 rfl rfl dJ18_intValue_1 ?_
    exact V.ireturn (x := n) cx rfl rfl ⟨rfl, rfl⟩ (by decide) (by decide) dJ18_intValue_4
  · refine V.aload_n cx dJ18_intValue_0 rfl 0 rfl ?_
    refine V.getR (v := .int n) cx ha hF q663 rfl dJ18_intValue_1 ?_
    exact V.ireturn (x := n) cx rfl rfl ⟨rfl, rfl⟩ (by decide) (by decide) dJ18_intValue_4
abbrev cJ18_compare : ByteArray := prog_28_method_40_code
def yJ18_compare : MethodName := ⟨RJ18, "compare", "(II)I"⟩
def dkwJ18_compare_0 : List UInt8 := [26, 27, 162, 0, 7, 2, 167, 0, 13, 26, 27, 160, 0, 7, 3, 167, 0, 4, 4, 172]
abbrev dktJ18_compare_0 : List UInt8 := dkwJ18_compare_0 ++ []
theorem dksJ18_compare_0 : cJ18_compare.data.toList.drop 0 = dktJ18_compare_0 := by decide +kernel
theorem dJ18_compare_0 : decode cJ18_compare 0 = .ok (.iload_n 0, 1) := dk_26 (dk_at dksJ18_compare_0 0 rfl rfl)
theorem dJ18_compare_1 : decode cJ18_compare 1 = .ok (.iload_n 1, 1) := dk_27 (dk_at dksJ18_compare_0 1 rfl rfl)
theorem dJ18_compare_2 : decode cJ18_compare 2 = .ok (.if_icmp .ge 7, 3) := dk_162 0 7 (dk_at dksJ18_compare_0 2 rfl rfl)
theorem dJ18_compare_5 : decode cJ18_compare 5 = .ok (.iconst (-1), 1) := dk_2 (dk_at dksJ18_compare_0 5 rfl rfl)
theorem dJ18_compare_6 : decode cJ18_compare 6 = .ok (.goto 13, 3) := dk_167 0 13 (dk_at dksJ18_compare_0 6 rfl rfl)
theorem dJ18_compare_9 : decode cJ18_compare 9 = .ok (.iload_n 0, 1) := dk_26 (dk_at dksJ18_compare_0 9 rfl rfl)
theorem dJ18_compare_10 : decode cJ18_compare 10 = .ok (.iload_n 1, 1) := dk_27 (dk_at dksJ18_compare_0 10 rfl rfl)
theorem dJ18_compare_11 : decode cJ18_compare 11 = .ok (.if_icmp .ne 7, 3) := dk_160 0 7 (dk_at dksJ18_compare_0 11 rfl rfl)
theorem dJ18_compare_14 : decode cJ18_compare 14 = .ok (.iconst 0, 1) := dk_3 (dk_at dksJ18_compare_0 14 rfl rfl)
theorem dJ18_compare_15 : decode cJ18_compare 15 = .ok (.goto 4, 3) := dk_167 0 4 (dk_at dksJ18_compare_0 15 rfl rfl)
theorem dJ18_compare_18 : decode cJ18_compare 18 = .ok (.iconst 1, 1) := dk_4 (dk_at dksJ18_compare_0 18 rfl rfl)
theorem dJ18_compare_19 : decode cJ18_compare 19 = .ok (.ireturn, 1) := dk_172 (dk_at dksJ18_compare_0 19 rfl rfl)
set_option maxHeartbeats 4000000 in
theorem m_compare (l : Launch) (hl : l.stackTraces = false) (g : GE) (A : Nat → Prop) (h : AHT) (x y : Int32) : U_ l g A yJ18_compare 1 0 0 [.int x, .int y] h (fun v h' => v = some (.int (cmpI x y)) ∧ h = h') noX := by
  refine U_.of (own := RJ18) (cc := cJ18_compare) (L := 2) (ret := (some Jvm.ClassFile.FieldType.int)) hl rfl (plainFor_of_name (by decide)) ⟨by decide, by decide⟩ q721 q105 (by decide) (fun e => absurd e (by decide)) (Nat.le_of_ble_eq_true rfl) (fun κ cx => ?_)
  show V g A κ _ _ 0 0 h 0 [(0, .int x), (1, .int y)] []
  refine V.iload_n cx dJ18_compare_0 rfl 0 rfl ?_
  refine V.iload_n cx dJ18_compare_1 rfl 1 rfl ?_
  refine V.icmp_ge (tgt := 9) cx dJ18_compare_2 (by decide) (fun c_2 => ?_) (fun c_2 => ?_)
  · refine V.iload_n cx dJ18_compare_9 rfl 0 rfl ?_
    refine V.iload_n cx dJ18_compare_10 rfl 1 rfl ?_
    refine V.icmp_ne (tgt := 18) cx dJ18_compare_11 (by decide) (fun c_11 => ?_) (fun c_11 => ?_)
    · refine V.iconst (v := (nI 1)) cx dJ18_compare_18 (by decide) ?_
      refine V.toi (y := cmpI x y) (by unfold cmpI; rw [if_pos c_2, if_neg c_11]; rfl) ?_
      exact V.ireturn (x := (cmpI x y)) cx rfl rfl ⟨rfl, rfl⟩ (by decide) (by decide) dJ18_compare_19
    · refine V.iconst (v := (nI 0)) cx dJ18_compare_14 (by decide) ?_
      refine V.goto (tgt := 19) cx dJ18_compare_15 (by decide) ?_
      refine V.toi (y := cmpI x y) (by unfold cmpI; rw [if_pos c_2, if_pos c_11]; rfl) ?_
      exact V.ireturn (x := (cmpI x y)) cx rfl rfl ⟨rfl, rfl⟩ (by decide) (by decide) dJ18_compare_19
  · refine V.iconst (v := (-1)) cx dJ18_compare_5 (by decide) ?_
    refine V.goto (tgt := 19) cx dJ18_compare_6 (by decide) ?_
    refine V.toi (y := cmpI x y) (by unfold cmpI; rw [if_neg c_2]) ?_
    exact V.ireturn (x := (cmpI x y)) cx rfl rfl ⟨rfl, rfl⟩ (by decide) (by decide) dJ18_compare_19
abbrev cJ18_compareTo_2 : ByteArray := prog_28_method_39_code
def yJ18_compareTo_2 : MethodName := ⟨RJ18, "compareTo", "(Ljava/lang/Integer;)I"⟩
def dkwJ18_compareTo_2_0 : List UInt8 := [42, 180, 0, 205, 43, 180, 0, 205, 184, 1, 3, 172]
abbrev dktJ18_compareTo_2_0 : List UInt8 := dkwJ18_compareTo_2_0 ++ []
theorem dksJ18_compareTo_2_0 : cJ18_compareTo_2.data.toList.drop 0 = dktJ18_compareTo_2_0 := by decide +kernel
theorem dJ18_compareTo_2_0 : decode cJ18_compareTo_2 0 = .ok (.aload_n 0, 1) := dk_42 (dk_at dksJ18_compareTo_2_0 0 rfl rfl)
theorem dJ18_compareTo_2_1 : decode cJ18_compareTo_2 1 = .ok (.getfield 205, 3) := dk_180 0 205 (dk_at dksJ18_compareTo_2_0 1 rfl rfl)
theorem dJ18_compareTo_2_4 : decode cJ18_compareTo_2 4 = .ok (.aload_n 1, 1) := dk_43 (dk_at dksJ18_compareTo_2_0 4 rfl rfl)
theorem dJ18_compareTo_2_5 : decode cJ18_compareTo_2 5 = .ok (.getfield 205, 3) := dk_180 0 205 (dk_at dksJ18_compareTo_2_0 5 rfl rfl)
theorem dJ18_compareTo_2_8 : decode cJ18_compareTo_2 8 = .ok (.invokestatic 259, 3) := dk_184 1 3 (dk_at dksJ18_compareTo_2_0 8 rfl rfl)
theorem dJ18_compareTo_2_11 : decode cJ18_compareTo_2 11 = .ok (.ireturn, 1) := dk_172 (dk_at dksJ18_compareTo_2_0 11 rfl rfl)
set_option maxHeartbeats 4000000 in
theorem m_compareTo2 (l : Launch) (hl : l.stackTraces = false) (g : GE) (A : Nat → Prop) (h : AHT) (a b : Nat) (x y : Int32) (ha : isInt g h a x) (hb : isInt g h b y) : U_ l g A yJ18_compareTo_2 2 0 0 [.ref a, .ref b] h (fun v h' => v = some (.int (cmpI x y)) ∧ h = h') noX := by
  refine U_.of (own := RJ18) (cc := cJ18_compareTo_2) (L := 2) (ret := (some Jvm.ClassFile.FieldType.int)) hl rfl (plainFor_of_name (by decide)) ⟨by decide, by decide⟩ q718 q105 (by decide) (fun e => absurd e (by decide)) (Nat.le_of_ble_eq_true rfl) (fun κ cx => ?_)
  show V g A κ _ _ 0 0 h 0 [(0, .ref a), (1, .ref b)] []
  rcases ha with ha | ⟨F, ha, hF⟩
  · rcases hb with hb | ⟨F2, hb, hF2⟩
    · refine V.aload_n cx dJ18_compareTo_2_0 rfl 0 rfl ?_
      refine V.get cx kJ18 ha 0 (by decide) q663 rfl rfl dJ18_compareTo_2_1 ?_
      refine V.aload_n cx dJ18_compareTo_2_4 rfl 1 rfl ?_
      refine V.get cx kJ18 hb 0 (by decide) q663 rfl rfl dJ18_compareTo_2_5 ?_
      refine V.callS (As := [.int x, .int y]) (rest := []) cx (m_compare l hl g A h x y) q719 q720 (na := 2) rfl (by decide +kernel) (Nat.le_of_ble_eq_true rfl) (by decide) (by decide) (by decide) rfl dJ18_compareTo_2_8 (fun _ _ _ hx => hx.elim) (fun v1 h2 hp => ?_)
      obtain ⟨rfl, rfl⟩ := hp
      show V g A κ _ _ 0 0 h 11 [(0, .ref a), (1, .ref b)] [.int (cmpI x y)]
      exact V.ireturn (x := (cmpI x y)) cx rfl rfl ⟨rfl, rfl⟩ (by decide) (by decide) dJ18_compareTo_2_11
    · refine V.aload_n cx dJ18_compareTo_2_0 rfl 0 rfl ?_
      refine V.get cx kJ18 ha 0 (by decide) q663 rfl rfl dJ18_compareTo_2_1 ?_
      refine V.aload_n cx dJ18_compareTo_2_4 rfl 1 rfl ?_
      refine V.getR (v := .int y) cx hb hF2 q663 rfl dJ18_compareTo_2_5 ?_
      refine V.callS (As := [.int x, .int y]) (rest := []) cx (m_compare l hl g A h x y) q719 q720 (na := 2) rfl (by decide +kernel) (Nat.le_of_ble_eq_true rfl) (by decide) (by decide) (by decide) rfl dJ18_compareTo_2_8 (fun _ _ _ hx => hx.elim) (fun v3 h4 hp => ?_)
      obtain ⟨rfl, rfl⟩ := hp
      show V g A κ _ _ 0 0 h 11 [(0, .ref a), (1, .ref b)] [.int (cmpI x y)]
      exact V.ireturn (x := (cmpI x y)) cx rfl rfl ⟨rfl, rfl⟩ (by decide) (by decide) dJ18_compareTo_2_11
  · rcases hb with hb | ⟨F2, hb, hF2⟩
    · refine V.aload_n cx dJ18_compareTo_2_0 rfl 0 rfl ?_
      refine V.getR (v := .int x) cx ha hF q663 rfl dJ18_compareTo_2_1 ?_
      refine V.aload_n cx dJ18_compareTo_2_4 rfl 1 rfl ?_
      refine V.get cx kJ18 hb 0 (by decide) q663 rfl rfl dJ18_compareTo_2_5 ?_
      refine V.callS (As := [.int x, .int y]) (rest := []) cx (m_compare l hl g A h x y) q719 q720 (na := 2) rfl (by decide +kernel) (Nat.le_of_ble_eq_true rfl) (by decide) (by decide) (by decide) rfl dJ18_compareTo_2_8 (fun _ _ _ hx => hx.elim) (fun v5 h6 hp => ?_)
      obtain ⟨rfl, rfl⟩ := hp
      show V g A κ _ _ 0 0 h 11 [(0, .ref a), (1, .ref b)] [.int (cmpI x y)]
      exact V.ireturn (x := (cmpI x y)) cx rfl rfl ⟨rfl, rfl⟩ (by decide) (by decide) dJ18_compareTo_2_11
    · refine V.aload_n cx dJ18_compareTo_2_0 rfl 0 rfl ?_
      refine V.getR (v := .int x) cx ha hF q663 rfl dJ18_compareTo_2_1 ?_
      refine V.aload_n cx dJ18_compareTo_2_4 rfl 1 rfl ?_
      refine V.getR (v := .int y) cx hb hF2 q663 rfl dJ18_compareTo_2_5 ?_
      refine V.callS (As := [.int x, .int y]) (rest := []) cx (m_compare l hl g A h x y) q719 q720 (na := 2) rfl (by decide +kernel) (Nat.le_of_ble_eq_true rfl) (by decide) (by decide) (by decide) rfl dJ18_compareTo_2_8 (fun _ _ _ hx => hx.elim) (fun v7 h8 hp => ?_)
      obtain ⟨rfl, rfl⟩ := hp
      show V g A κ _ _ 0 0 h 11 [(0, .ref a), (1, .ref b)] [.int (cmpI x y)]
      exact V.ireturn (x := (cmpI x y)) cx rfl rfl ⟨rfl, rfl⟩ (by decide) (by decide) dJ18_compareTo_2_11
abbrev cJ18_compareTo : ByteArray := prog_28_method_63_code
def yJ18_compareTo : MethodName := ⟨RJ18, "compareTo", "(Ljava/lang/Object;)I"⟩
def dkwJ18_compareTo_0 : List UInt8 := [42, 43, 192, 0, 1, 182, 1, 28, 172]
abbrev dktJ18_compareTo_0 : List UInt8 := dkwJ18_compareTo_0 ++ []
theorem dksJ18_compareTo_0 : cJ18_compareTo.data.toList.drop 0 = dktJ18_compareTo_0 := by decide +kernel
theorem dJ18_compareTo_0 : decode cJ18_compareTo 0 = .ok (.aload_n 0, 1) := dk_42 (dk_at dksJ18_compareTo_0 0 rfl rfl)
theorem dJ18_compareTo_1 : decode cJ18_compareTo 1 = .ok (.aload_n 1, 1) := dk_43 (dk_at dksJ18_compareTo_0 1 rfl rfl)
theorem dJ18_compareTo_2 : decode cJ18_compareTo 2 = .ok (.checkcast 1, 3) := dk_192 0 1 (dk_at dksJ18_compareTo_0 2 rfl rfl)
theorem dJ18_compareTo_5 : decode cJ18_compareTo 5 = .ok (.invokevirtual 284, 3) := dk_182 1 28 (dk_at dksJ18_compareTo_0 5 rfl rfl)
theorem dJ18_compareTo_8 : decode cJ18_compareTo 8 = .ok (.ireturn, 1) := dk_172 (dk_at dksJ18_compareTo_0 8 rfl rfl)
set_option maxHeartbeats 4000000 in
theorem m_compareTo (l : Launch) (hl : l.stackTraces = false) (g : GE) (A : Nat → Prop) (h : AHT) (a b : Nat) (x y : Int32) (ha : isInt g h a x) (hb : isInt g h b y) : U_ l g A yJ18_compareTo 3 0 0 [.ref a, .ref b] h (fun v h' => v = some (.int (cmpI x y)) ∧ h = h') noX := by
  refine U_.of (own := RJ18) (cc := cJ18_compareTo) (L := 2) (ret := (some Jvm.ClassFile.FieldType.int)) hl rfl (plainFor_of_name (by decide)) ⟨by decide, by decide⟩ q714 q105 (by decide) (fun e => absurd e (by decide)) (Nat.le_of_ble_eq_true rfl) (fun κ cx => ?_)
  show V g A κ _ _ 0 0 h 0 [(0, .ref a), (1, .ref b)] []
  rcases hb with hb | ⟨F, hb, hF⟩
  · refine V.aload_n cx dJ18_compareTo_0 rfl 0 rfl ?_
    refine V.aload_n cx dJ18_compareTo_1 rfl 1 rfl ?_
    refine V.castS cx kJ18 (Rv.of kJ18 hb) q654 dJ18_compareTo_2 ?_
    refine V.callV (As := [.ref b]) (rest := []) (C := "java/lang/Integer") cx (m_compareTo2 l hl g A h a b x y ha (Or.inl hb)) rfl q715 q716 q717 ha.rv (na := 1) rfl (by decide +kernel) (Nat.le_of_ble_eq_true rfl) (by decide) (by decide) (by decide) rfl dJ18_compareTo_5 (fun _ _ _ hx => hx.elim) (fun v1 h2 hp => ?_)
    obtain ⟨rfl, rfl⟩ := hp
    show V g A κ _ _ 0 0 h 8 [(0, .ref a), (1, .ref b)] [.int (cmpI x y)]
    exact V.ireturn (x := (cmpI x y)) cx rfl rfl ⟨rfl, rfl⟩ (by decide) (by decide) dJ18_compareTo_8
  · refine V.aload_n cx dJ18_compareTo_0 rfl 0 rfl ?_
    refine V.aload_n cx dJ18_compareTo_1 rfl 1 rfl ?_
    refine V.castS cx kJ18 (Or.inr ⟨_, hb⟩) q654 dJ18_compareTo_2 ?_
    refine V.callV (As := [.ref b]) (rest := []) (C := "java/lang/Integer") cx (m_compareTo2 l hl g A h a b x y ha (Or.inr ⟨_, hb, hF⟩)) rfl q715 q716 q717 ha.rv (na := 1) rfl (by decide +kernel) (Nat.le_of_ble_eq_true rfl) (by decide) (by decide) (by decide) rfl dJ18_compareTo_5 (fun _ _ _ hx => hx.elim) (fun v3 h4 hp => ?_)
    obtain ⟨rfl, rfl⟩ := hp
    show V g A κ _ _ 0 0 h 8 [(0, .ref a), (1, .ref b)] [.int (cmpI x y)]
    exact V.ireturn (x := (cmpI x y)) cx rfl rfl ⟨rfl, rfl⟩ (by decide) (by decide) dJ18_compareTo_8
abbrev cJ20_max : ByteArray := prog_32_method_65_code
def yJ20_max : MethodName := ⟨RJ20, "max", "(II)I"⟩
def dkwJ20_max_0 : List UInt8 := [26, 27, 161, 0, 7, 26, 167, 0, 4, 27, 172]
abbrev dktJ20_max_0 : List UInt8 := dkwJ20_max_0 ++ []
theorem dksJ20_max_0 : cJ20_max.data.toList.drop 0 = dktJ20_max_0 := by decide +kernel
theorem dJ20_max_0 : decode cJ20_max 0 = .ok (.iload_n 0, 1) := dk_26 (dk_at dksJ20_max_0 0 rfl rfl)
theorem dJ20_max_1 : decode cJ20_max 1 = .ok (.iload_n 1, 1) := dk_27 (dk_at dksJ20_max_0 1 rfl rfl)
theorem dJ20_max_2 : decode cJ20_max 2 = .ok (.if_icmp .lt 7, 3) := dk_161 0 7 (dk_at dksJ20_max_0 2 rfl rfl)
theorem dJ20_max_5 : decode cJ20_max 5 = .ok (.iload_n 0, 1) := dk_26 (dk_at dksJ20_max_0 5 rfl rfl)
theorem dJ20_max_6 : decode cJ20_max 6 = .ok (.goto 4, 3) := dk_167 0 4 (dk_at dksJ20_max_0 6 rfl rfl)
theorem dJ20_max_9 : decode cJ20_max 9 = .ok (.iload_n 1, 1) := dk_27 (dk_at dksJ20_max_0 9 rfl rfl)
theorem dJ20_max_10 : decode cJ20_max 10 = .ok (.ireturn, 1) := dk_172 (dk_at dksJ20_max_0 10 rfl rfl)
set_option maxHeartbeats 4000000 in
theorem m_max (l : Launch) (hl : l.stackTraces = false) (g : GE) (A : Nat → Prop) (h : AHT) (x y : Int32) : U_ l g A yJ20_max 1 0 0 [.int x, .int y] h (fun v h' => v = some (.int (if x < y then y else x)) ∧ h = h') noX := by
  refine U_.of (own := RJ20) (cc := cJ20_max) (L := 2) (ret := (some Jvm.ClassFile.FieldType.int)) hl rfl (by decide +kernel) ⟨by decide, by decide⟩ q583 q108 (by decide) (fun e => absurd e (by decide)) (Nat.le_of_ble_eq_true rfl) (fun κ cx => ?_)
  show V g A κ _ _ 0 0 h 0 [(0, .int x), (1, .int y)] []
  refine V.iload_n cx dJ20_max_0 rfl 0 rfl ?_
  refine V.iload_n cx dJ20_max_1 rfl 1 rfl ?_
  refine V.icmp_lt (tgt := 9) cx dJ20_max_2 (by decide) (fun c_2 => ?_) (fun c_2 => ?_)
  · refine V.iload_n cx dJ20_max_9 rfl 1 rfl ?_
    refine V.toi (y := if x < y then y else x) (if_pos c_2).symm ?_
    exact V.ireturn (x := (if x < y then y else x)) cx rfl rfl ⟨rfl, rfl⟩ (by decide) (by decide) dJ20_max_10
  · refine V.iload_n cx dJ20_max_5 rfl 0 rfl ?_
    refine V.goto (tgt := 10) cx dJ20_max_6 (by decide) ?_
    refine V.toi (y := if x < y then y else x) (if_neg c_2).symm ?_
    exact V.ireturn (x := (if x < y then y else x)) cx rfl rfl ⟨rfl, rfl⟩ (by decide) (by decide) dJ20_max_10
abbrev cJ20_min : ByteArray := prog_32_method_69_code
def yJ20_min : MethodName := ⟨RJ20, "min", "(II)I"⟩
def dkwJ20_min_0 : List UInt8 := [26, 27, 163, 0, 7, 26, 167, 0, 4, 27, 172]
abbrev dktJ20_min_0 : List UInt8 := dkwJ20_min_0 ++ []
theorem dksJ20_min_0 : cJ20_min.data.toList.drop 0 = dktJ20_min_0 := by decide +kernel
theorem dJ20_min_0 : decode cJ20_min 0 = .ok (.iload_n 0, 1) := dk_26 (dk_at dksJ20_min_0 0 rfl rfl)
theorem dJ20_min_1 : decode cJ20_min 1 = .ok (.iload_n 1, 1) := dk_27 (dk_at dksJ20_min_0 1 rfl rfl)
theorem dJ20_min_2 : decode cJ20_min 2 = .ok (.if_icmp .gt 7, 3) := dk_163 0 7 (dk_at dksJ20_min_0 2 rfl rfl)
theorem dJ20_min_5 : decode cJ20_min 5 = .ok (.iload_n 0, 1) := dk_26 (dk_at dksJ20_min_0 5 rfl rfl)
theorem dJ20_min_6 : decode cJ20_min 6 = .ok (.goto 4, 3) := dk_167 0 4 (dk_at dksJ20_min_0 6 rfl rfl)
theorem dJ20_min_9 : decode cJ20_min 9 = .ok (.iload_n 1, 1) := dk_27 (dk_at dksJ20_min_0 9 rfl rfl)
theorem dJ20_min_10 : decode cJ20_min 10 = .ok (.ireturn, 1) := dk_172 (dk_at dksJ20_min_0 10 rfl rfl)
set_option maxHeartbeats 4000000 in
theorem m_min (l : Launch) (hl : l.stackTraces = false) (g : GE) (A : Nat → Prop) (h : AHT) (x y : Int32) : U_ l g A yJ20_min 1 0 0 [.int x, .int y] h (fun v h' => v = some (.int (if y < x then y else x)) ∧ h = h') noX := by
  refine U_.of (own := RJ20) (cc := cJ20_min) (L := 2) (ret := (some Jvm.ClassFile.FieldType.int)) hl rfl (by decide +kernel) ⟨by decide, by decide⟩ q633 q108 (by decide) (fun e => absurd e (by decide)) (Nat.le_of_ble_eq_true rfl) (fun κ cx => ?_)
  show V g A κ _ _ 0 0 h 0 [(0, .int x), (1, .int y)] []
  refine V.iload_n cx dJ20_min_0 rfl 0 rfl ?_
  refine V.iload_n cx dJ20_min_1 rfl 1 rfl ?_
  refine V.icmp_gt (tgt := 9) cx dJ20_min_2 (by decide) (fun c_2 => ?_) (fun c_2 => ?_)
  · refine V.iload_n cx dJ20_min_9 rfl 1 rfl ?_
    refine V.toi (y := if y < x then y else x) (if_pos c_2).symm ?_
    exact V.ireturn (x := (if y < x then y else x)) cx rfl rfl ⟨rfl, rfl⟩ (by decide) (by decide) dJ20_min_10
  · refine V.iload_n cx dJ20_min_5 rfl 0 rfl ?_
    refine V.goto (tgt := 10) cx dJ20_min_6 (by decide) ?_
    refine V.toi (y := if y < x then y else x) (if_neg c_2).symm ?_
    exact V.ireturn (x := (if y < x then y else x)) cx rfl rfl ⟨rfl, rfl⟩ (by decide) (by decide) dJ20_min_10
theorem fm_4 : ∀ s, s < 4 → ∀ t, t < 4 → (nI s - nI t) - (nI s - nI t) / nI 4 * nI 4 = (if s < t ∧ True then nI s - nI t else nI (s - t)) := by decide +kernel
theorem fm_x : ∀ s, s < 4 → ∀ t, t < 4 → (0 ≤ (nI s - nI t) ^^^ nI 4 ↔ t ≤ s) ∧ (t ≤ s → nI s - nI t = nI ((s + 4 - t) % 4)) ∧ (s < t → nI s - nI t + nI 4 = nI ((s + 4 - t) % 4) ∧ ¬ nI s - nI t = 0) := by decide +kernel
theorem fm_y : ∀ s, s < 4 → ∀ t, t < 4 → (nI s - nI t) - (nI s - nI t) / nI 4 * nI 4 = nI s - nI t := by decide +kernel
abbrev cJ20_floorMod : ByteArray := prog_32_method_50_code
def yJ20_floorMod : MethodName := ⟨RJ20, "floorMod", "(II)I"⟩
def dkwJ20_floorMod_0 : List UInt8 := [26, 27, 112, 61, 26, 27, 130, 156, 0, 11, 28, 153, 0, 7, 28, 27, 96, 172, 28, 172]
abbrev dktJ20_floorMod_0 : List UInt8 := dkwJ20_floorMod_0 ++ []
theorem dksJ20_floorMod_0 : cJ20_floorMod.data.toList.drop 0 = dktJ20_floorMod_0 := by decide +kernel
theorem dJ20_floorMod_0 : decode cJ20_floorMod 0 = .ok (.iload_n 0, 1) := dk_26 (dk_at dksJ20_floorMod_0 0 rfl rfl)
theorem dJ20_floorMod_1 : decode cJ20_floorMod 1 = .ok (.iload_n 1, 1) := dk_27 (dk_at dksJ20_floorMod_0 1 rfl rfl)
theorem dJ20_floorMod_2 : decode cJ20_floorMod 2 = .ok (.irem, 1) := dk_112 (dk_at dksJ20_floorMod_0 2 rfl rfl)
theorem dJ20_floorMod_3 : decode cJ20_floorMod 3 = .ok (.istore_n 2, 1) := dk_61 (dk_at dksJ20_floorMod_0 3 rfl rfl)
theorem dJ20_floorMod_4 : decode cJ20_floorMod 4 = .ok (.iload_n 0, 1) := dk_26 (dk_at dksJ20_floorMod_0 4 rfl rfl)
theorem dJ20_floorMod_5 : decode cJ20_floorMod 5 = .ok (.iload_n 1, 1) := dk_27 (dk_at dksJ20_floorMod_0 5 rfl rfl)
theorem dJ20_floorMod_6 : decode cJ20_floorMod 6 = .ok (.ixor, 1) := dk_130 (dk_at dksJ20_floorMod_0 6 rfl rfl)
theorem dJ20_floorMod_7 : decode cJ20_floorMod 7 = .ok (.ifCond .ge 11, 3) := dk_156 0 11 (dk_at dksJ20_floorMod_0 7 rfl rfl)
theorem dJ20_floorMod_10 : decode cJ20_floorMod 10 = .ok (.iload_n 2, 1) := dk_28 (dk_at dksJ20_floorMod_0 10 rfl rfl)
theorem dJ20_floorMod_11 : decode cJ20_floorMod 11 = .ok (.ifCond .eq 7, 3) := dk_153 0 7 (dk_at dksJ20_floorMod_0 11 rfl rfl)
theorem dJ20_floorMod_14 : decode cJ20_floorMod 14 = .ok (.iload_n 2, 1) := dk_28 (dk_at dksJ20_floorMod_0 14 rfl rfl)
theorem dJ20_floorMod_15 : decode cJ20_floorMod 15 = .ok (.iload_n 1, 1) := dk_27 (dk_at dksJ20_floorMod_0 15 rfl rfl)
theorem dJ20_floorMod_16 : decode cJ20_floorMod 16 = .ok (.iadd, 1) := dk_96 (dk_at dksJ20_floorMod_0 16 rfl rfl)
theorem dJ20_floorMod_17 : decode cJ20_floorMod 17 = .ok (.ireturn, 1) := dk_172 (dk_at dksJ20_floorMod_0 17 rfl rfl)
theorem dJ20_floorMod_18 : decode cJ20_floorMod 18 = .ok (.iload_n 2, 1) := dk_28 (dk_at dksJ20_floorMod_0 18 rfl rfl)
theorem dJ20_floorMod_19 : decode cJ20_floorMod 19 = .ok (.ireturn, 1) := dk_172 (dk_at dksJ20_floorMod_0 19 rfl rfl)
set_option maxHeartbeats 4000000 in
theorem m_floorMod (l : Launch) (hl : l.stackTraces = false) (g : GE) (A : Nat → Prop) (h : AHT) (s t : Nat) (hs : s < 4) (ht : t < 4) : U_ l g A yJ20_floorMod 1 0 0 [.int (nI s - nI t), .int (nI 4)] h (fun v h' => v = some (.int (nI ((s + 4 - t) % 4))) ∧ h = h') noX := by
  refine U_.of (own := RJ20) (cc := cJ20_floorMod) (L := 3) (ret := (some Jvm.ClassFile.FieldType.int)) hl rfl (by decide +kernel) ⟨by decide, by decide⟩ q1498 q108 (by decide) (fun e => absurd e (by decide)) (Nat.le_of_ble_eq_true rfl) (fun κ cx => ?_)
  show V g A κ _ _ 0 0 h 0 [(0, .int (nI s - nI t)), (1, .int (nI 4))] []
  obtain ⟨f1, f2, f3⟩ := fm_x s hs t ht
  refine V.iload_n cx dJ20_floorMod_0 rfl 0 rfl ?_
  refine V.iload_n cx dJ20_floorMod_1 rfl 1 rfl ?_
  refine V.irem cx dJ20_floorMod_2 (by decide) ?_
  refine V.toi (fm_y s hs t ht) ?_
  refine V.istore_n (lv' := [(2, .int (nI s - nI t)), (0, .int (nI s - nI t)), (1, .int (nI 4))]) cx dJ20_floorMod_3 rfl (by decide) rfl ?_
  refine V.iload_n cx dJ20_floorMod_4 rfl 1 rfl ?_
  refine V.iload_n cx dJ20_floorMod_5 rfl 2 rfl ?_
  refine V.ixor cx dJ20_floorMod_6 ?_
  refine V.if_ge (tgt := 18) cx dJ20_floorMod_7 (by decide) (fun c_7 => ?_) (fun c_7 => ?_)
  · refine V.iload_n cx dJ20_floorMod_18 rfl 0 rfl ?_
    refine V.toi (f2 (f1.mp c_7)) ?_
    exact V.ireturn (x := (nI ((s + 4 - t) % 4))) cx rfl rfl ⟨rfl, rfl⟩ (by decide) (by decide) dJ20_floorMod_19
  · refine V.iload_n cx dJ20_floorMod_10 rfl 0 rfl ?_
    have hlt := Nat.lt_of_not_le (fun e => c_7 (f1.mpr e))
    refine V.if_eq (tgt := 18) cx dJ20_floorMod_11 (by decide) (fun c_11 => ?_) (fun c_11 => ?_)
    · exact absurd c_11 (f3 hlt).2
    · refine V.iload_n cx dJ20_floorMod_14 rfl 0 rfl ?_
      refine V.iload_n cx dJ20_floorMod_15 rfl 2 rfl ?_
      refine V.iadd cx dJ20_floorMod_16 ?_
      refine V.toi (f3 hlt).1 ?_
      exact V.ireturn (x := (nI ((s + 4 - t) % 4))) cx rfl rfl ⟨rfl, rfl⟩ (by decide) (by decide) dJ20_floorMod_17
