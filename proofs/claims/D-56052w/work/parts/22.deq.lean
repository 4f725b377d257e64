/-! JDK: ArrayDeque -/
set_option maxRecDepth 100000
/-- the ArrayDeque dq with the array el (17 places, it never grows here) holds xs -/
def DQ (g : GE) (h : AHT) (dq el : Nat) (xs : List Nat) : Prop := ∃ (hd tl : Nat) (f : Nat → Option Nat), h dq = some (ob 11 [.ref el, .int (nI hd), .int (nI tl)]) ∧ h el = some (aQ g 5 17 f) ∧ hd < 17 ∧ tl < 17 ∧ tl = (hd + xs.length) % 17 ∧ xs.length ≤ 16 ∧ ∀ i, i < 17 → f ((hd + i) % 17) = xs[i]?
theorem DQ.off {g : GE} {h h' : AHT} {dq el : Nat} {xs : List Nat} {S : List Nat} (a : DQ g h dq el xs) (o : Off S h h') (h1 : dq ∉ S) (h2 : el ∉ S) : DQ g h' dq el xs := by
  obtain ⟨hd, tl, f, e1, e2, e3⟩ := a
  exact ⟨hd, tl, f, o _ _ h1 e1, o _ _ h2 e2, e3⟩
theorem DQ.rv {g : GE} {h : AHT} {dq el : Nat} {xs : List Nat} (a : DQ g h dq el xs) : Rv g h dq "java/util/ArrayDeque" := by
  obtain ⟨hd, tl, f, e1, e2, e3⟩ := a
  exact Rv.of kJ3 e1
theorem dq_dec : ∀ i, i < 17 → 1 ≤ i → nI i + Int32.ofInt (-1) = nI (i - 1) := by decide
theorem dq_sub1 : ∀ i, i < 17 → ∀ j, j < 17 → i < j → ¬ (0 ≤ nI i - nI j) := by decide
theorem dq_sub2 : ∀ i, i < 17 → ∀ j, j < 17 → i < j → nI i - nI j + nI 17 = nI ((i + 17 - j) % 17) := by decide

abbrev cJ3_inc : ByteArray := prog_48_method_6_code
def yJ3_inc : MethodName := ⟨RJ3, "inc", "(II)I"⟩
def dkwJ3_inc_0 : List UInt8 := [132, 0, 1, 26, 27, 161, 0, 5, 3, 59, 26, 172]
abbrev dktJ3_inc_0 : List UInt8 := dkwJ3_inc_0 ++ []
theorem dksJ3_inc_0 : cJ3_inc.data.toList.drop 0 = dktJ3_inc_0 := by decide +kernel
theorem dJ3_inc_0 : decode cJ3_inc 0 = .ok (.iinc 0 1, 3) := dk_132 0 1 (dk_at dksJ3_inc_0 0 rfl rfl)
theorem dJ3_inc_3 : decode cJ3_inc 3 = .ok (.iload_n 0, 1) := dk_26 (dk_at dksJ3_inc_0 3 rfl rfl)
theorem dJ3_inc_4 : decode cJ3_inc 4 = .ok (.iload_n 1, 1) := dk_27 (dk_at dksJ3_inc_0 4 rfl rfl)
theorem dJ3_inc_5 : decode cJ3_inc 5 = .ok (.if_icmp .lt 5, 3) := dk_161 0 5 (dk_at dksJ3_inc_0 5 rfl rfl)
theorem dJ3_inc_8 : decode cJ3_inc 8 = .ok (.iconst 0, 1) := dk_3 (dk_at dksJ3_inc_0 8 rfl rfl)
theorem dJ3_inc_9 : decode cJ3_inc 9 = .ok (.istore_n 0, 1) := dk_59 (dk_at dksJ3_inc_0 9 rfl rfl)
theorem dJ3_inc_10 : decode cJ3_inc 10 = .ok (.iload_n 0, 1) := dk_26 (dk_at dksJ3_inc_0 10 rfl rfl)
theorem dJ3_inc_11 : decode cJ3_inc 11 = .ok (.ireturn, 1) := dk_172 (dk_at dksJ3_inc_0 11 rfl rfl)
set_option maxHeartbeats 4000000 in
theorem m_dqInc (l : Launch) (hl : l.stackTraces = false) (g : GE) (A : Nat → Prop) (h : AHT) (i : Nat) (hi : i < 17) : U_ l g A yJ3_inc 1 0 0 [.int (nI i), .int (nI 17)] h (fun v h' => v = some (.int (nI ((i + 1) % 17))) ∧ h = h') noX := by
  refine U_.of (own := RJ3) (cc := cJ3_inc) (L := 2) (ret := (some Jvm.ClassFile.FieldType.int)) hl rfl (plainFor_of_name (by decide)) ⟨by decide, by decide⟩ q529 q87 (by decide) (fun e => absurd e (by decide)) (Nat.le_of_ble_eq_true rfl) (fun κ cx => ?_)
  show V g A κ _ _ 0 0 h 0 [(0, .int (nI i)), (1, .int (nI 17))] []
  refine V.iinc (v := (nI (i + 1))) (lv' := [(0, .int (nI (i + 1))), (1, .int (nI 17))]) cx dJ3_inc_0 0 rfl (nI_1 i) (by decide) rfl ?_
  refine V.iload_n cx dJ3_inc_3 rfl 0 rfl ?_
  refine V.iload_n cx dJ3_inc_4 rfl 1 rfl ?_
  refine V.nicmp_lt (a := i + 1) (b := 17) (tgt := 10) cx (by omega) (by decide) dJ3_inc_5 (by decide) (fun c9 => ?_) (fun c9 => ?_)
  · refine V.iload_n cx dJ3_inc_10 rfl 0 rfl ?_
    refine V.toi (y := nI ((i + 1) % 17)) (by rw [Nat.mod_eq_of_lt c9]) ?_
    exact V.ireturn (x := (nI ((i + 1) % 17))) cx rfl rfl ⟨rfl, rfl⟩ (by decide) (by decide) dJ3_inc_11
  · refine V.iconst (v := (nI 0)) cx dJ3_inc_8 (by decide) ?_
    refine V.istore_n (lv' := [(0, .int (nI 0)), (1, .int (nI 17))]) cx dJ3_inc_9 rfl (by decide) rfl ?_
    refine V.iload_n cx dJ3_inc_10 rfl 0 rfl ?_
    refine V.toi (y := nI ((i + 1) % 17)) (by rw [show i = 16 by omega]) ?_
    exact V.ireturn (x := (nI ((i + 1) % 17))) cx rfl rfl ⟨rfl, rfl⟩ (by decide) (by decide) dJ3_inc_11
abbrev cJ3_dec : ByteArray := prog_48_method_7_code
def yJ3_dec : MethodName := ⟨RJ3, "dec", "(II)I"⟩
def dkwJ3_dec_0 : List UInt8 := [132, 0, 255, 26, 156, 0, 7, 27, 4, 100, 59, 26, 172]
abbrev dktJ3_dec_0 : List UInt8 := dkwJ3_dec_0 ++ []
theorem dksJ3_dec_0 : cJ3_dec.data.toList.drop 0 = dktJ3_dec_0 := by decide +kernel
theorem dJ3_dec_0 : decode cJ3_dec 0 = .ok (.iinc 0 (-1), 3) := dk_132 0 255 (dk_at dksJ3_dec_0 0 rfl rfl)
theorem dJ3_dec_3 : decode cJ3_dec 3 = .ok (.iload_n 0, 1) := dk_26 (dk_at dksJ3_dec_0 3 rfl rfl)
theorem dJ3_dec_4 : decode cJ3_dec 4 = .ok (.ifCond .ge 7, 3) := dk_156 0 7 (dk_at dksJ3_dec_0 4 rfl rfl)
theorem dJ3_dec_7 : decode cJ3_dec 7 = .ok (.iload_n 1, 1) := dk_27 (dk_at dksJ3_dec_0 7 rfl rfl)
theorem dJ3_dec_8 : decode cJ3_dec 8 = .ok (.iconst 1, 1) := dk_4 (dk_at dksJ3_dec_0 8 rfl rfl)
theorem dJ3_dec_9 : decode cJ3_dec 9 = .ok (.isub, 1) := dk_100 (dk_at dksJ3_dec_0 9 rfl rfl)
theorem dJ3_dec_10 : decode cJ3_dec 10 = .ok (.istore_n 0, 1) := dk_59 (dk_at dksJ3_dec_0 10 rfl rfl)
theorem dJ3_dec_11 : decode cJ3_dec 11 = .ok (.iload_n 0, 1) := dk_26 (dk_at dksJ3_dec_0 11 rfl rfl)
theorem dJ3_dec_12 : decode cJ3_dec 12 = .ok (.ireturn, 1) := dk_172 (dk_at dksJ3_dec_0 12 rfl rfl)
set_option maxHeartbeats 4000000 in
theorem m_dqDec (l : Launch) (hl : l.stackTraces = false) (g : GE) (A : Nat → Prop) (h : AHT) (i : Nat) (hi : i < 17) : U_ l g A yJ3_dec 1 0 0 [.int (nI i), .int (nI 17)] h (fun v h' => v = some (.int (nI ((i + 16) % 17))) ∧ h = h') noX := by
  refine U_.of (own := RJ3) (cc := cJ3_dec) (L := 2) (ret := (some Jvm.ClassFile.FieldType.int)) hl rfl (plainFor_of_name (by decide)) ⟨by decide, by decide⟩ q2420 q87 (by decide) (fun e => absurd e (by decide)) (Nat.le_of_ble_eq_true rfl) (fun κ cx => ?_)
  show V g A κ _ _ 0 0 h 0 [(0, .int (nI i)), (1, .int (nI 17))] []
  rcases Nat.eq_zero_or_pos i with rfl | hp
  · show V g A κ _ _ 0 0 h 0 [(0, .int (nI 0)), (1, .int (nI 17))] []
    refine V.iinc (v := ((nI 0) + Int32.ofInt (-1))) (lv' := [(0, .int ((nI 0) + Int32.ofInt (-1))), (1, .int (nI 17))]) cx dJ3_dec_0 0 rfl rfl (by decide) rfl ?_
    refine V.iload_n cx dJ3_dec_3 rfl 0 rfl ?_
    refine V.if_ge (tgt := 11) cx dJ3_dec_4 (by decide) (fun c9 => ?_) (fun c9 => ?_)
    · exact absurd c9 (by decide)
    · refine V.iload_n cx dJ3_dec_7 rfl 1 rfl ?_
      refine V.iconst (v := (nI 1)) cx dJ3_dec_8 (by decide) ?_
      refine V.isub cx dJ3_dec_9 ?_
      refine V.toi (pk_sub (a := 17) (b := 1) (by decide)) ?_
      refine V.istore_n (lv' := [(0, .int (nI (17 - 1))), (1, .int (nI 17))]) cx dJ3_dec_10 rfl (by decide) rfl ?_
      refine V.iload_n cx dJ3_dec_11 rfl 0 rfl ?_
      refine V.toi (y := nI ((0 + 16) % 17)) (by decide) ?_
      exact V.ireturn (x := (nI ((0 + 16) % 17))) cx rfl rfl ⟨rfl, rfl⟩ (by decide) (by decide) dJ3_dec_12
  · refine V.iinc (v := ((nI i) + Int32.ofInt (-1))) (lv' := [(0, .int ((nI i) + Int32.ofInt (-1))), (1, .int (nI 17))]) cx dJ3_dec_0 0 rfl rfl (by decide) rfl ?_
    refine V.sub [0, 1] (lv' := [(0, .int (nI (i - 1))), (1, .int (nI 17))]) (by rw [← dq_dec i hi hp]; rfl) ?_
    show V g A κ _ _ 0 0 h 3 [(0, .int (nI (i - 1))), (1, .int (nI 17))] []
    refine V.iload_n cx dJ3_dec_3 rfl 0 rfl ?_
    refine V.nif_ge (a := (i - 1)) (tgt := 11) cx (by omega) dJ3_dec_4 (by decide) ?_
    refine V.iload_n cx dJ3_dec_11 rfl 0 rfl ?_
    refine V.toi (y := nI ((i + 16) % 17)) (by rw [show (i + 16) % 17 = i - 1 by omega]) ?_
    exact V.ireturn (x := (nI ((i + 16) % 17))) cx rfl rfl ⟨rfl, rfl⟩ (by decide) (by decide) dJ3_dec_12
abbrev cJ3_sub : ByteArray := prog_48_method_9_code
def yJ3_sub : MethodName := ⟨RJ3, "sub", "(III)I"⟩
def dkwJ3_sub_0 : List UInt8 := [26, 27, 100, 89, 59, 156, 0, 7, 26, 28, 96, 59, 26, 172]
abbrev dktJ3_sub_0 : List UInt8 := dkwJ3_sub_0 ++ []
theorem dksJ3_sub_0 : cJ3_sub.data.toList.drop 0 = dktJ3_sub_0 := by decide +kernel
theorem dJ3_sub_0 : decode cJ3_sub 0 = .ok (.iload_n 0, 1) := dk_26 (dk_at dksJ3_sub_0 0 rfl rfl)
theorem dJ3_sub_1 : decode cJ3_sub 1 = .ok (.iload_n 1, 1) := dk_27 (dk_at dksJ3_sub_0 1 rfl rfl)
theorem dJ3_sub_2 : decode cJ3_sub 2 = .ok (.isub, 1) := dk_100 (dk_at dksJ3_sub_0 2 rfl rfl)
theorem dJ3_sub_3 : decode cJ3_sub 3 = .ok (.dup, 1) := dk_89 (dk_at dksJ3_sub_0 3 rfl rfl)
theorem dJ3_sub_4 : decode cJ3_sub 4 = .ok (.istore_n 0, 1) := dk_59 (dk_at dksJ3_sub_0 4 rfl rfl)
theorem dJ3_sub_5 : decode cJ3_sub 5 = .ok (.ifCond .ge 7, 3) := dk_156 0 7 (dk_at dksJ3_sub_0 5 rfl rfl)
theorem dJ3_sub_8 : decode cJ3_sub 8 = .ok (.iload_n 0, 1) := dk_26 (dk_at dksJ3_sub_0 8 rfl rfl)
theorem dJ3_sub_9 : decode cJ3_sub 9 = .ok (.iload_n 2, 1) := dk_28 (dk_at dksJ3_sub_0 9 rfl rfl)
theorem dJ3_sub_10 : decode cJ3_sub 10 = .ok (.iadd, 1) := dk_96 (dk_at dksJ3_sub_0 10 rfl rfl)
theorem dJ3_sub_11 : decode cJ3_sub 11 = .ok (.istore_n 0, 1) := dk_59 (dk_at dksJ3_sub_0 11 rfl rfl)
theorem dJ3_sub_12 : decode cJ3_sub 12 = .ok (.iload_n 0, 1) := dk_26 (dk_at dksJ3_sub_0 12 rfl rfl)
theorem dJ3_sub_13 : decode cJ3_sub 13 = .ok (.ireturn, 1) := dk_172 (dk_at dksJ3_sub_0 13 rfl rfl)
set_option maxHeartbeats 4000000 in
theorem m_dqSub (l : Launch) (hl : l.stackTraces = false) (g : GE) (A : Nat → Prop) (h : AHT) (i j : Nat) (hi : i < 17) (hj : j < 17) : U_ l g A yJ3_sub 1 0 0 [.int (nI i), .int (nI j), .int (nI 17)] h (fun v h' => v = some (.int (nI ((i + 17 - j) % 17))) ∧ h = h') noX := by
  refine U_.of (own := RJ3) (cc := cJ3_sub) (L := 3) (ret := (some Jvm.ClassFile.FieldType.int)) hl rfl (plainFor_of_name (by decide)) ⟨by decide, by decide⟩ q353 q87 (by decide) (fun e => absurd e (by decide)) (Nat.le_of_ble_eq_true rfl) (fun κ cx => ?_)
  show V g A κ _ _ 0 0 h 0 [(0, .int (nI i)), (1, .int (nI j)), (2, .int (nI 17))] []
  rcases Nat.lt_or_ge i j with hp | hp
  · refine V.iload_n cx dJ3_sub_0 rfl 0 rfl ?_
    refine V.iload_n cx dJ3_sub_1 rfl 1 rfl ?_
    refine V.isub cx dJ3_sub_2 ?_
    refine V.dup cx dJ3_sub_3 rfl ?_
    refine V.istore_n (lv' := [(0, .int ((nI i) - (nI j))), (1, .int (nI j)), (2, .int (nI 17))]) cx dJ3_sub_4 rfl (by decide) rfl ?_
    refine V.if_ge (tgt := 12) cx dJ3_sub_5 (by decide) (fun c9 => ?_) (fun c9 => ?_)
    · exact absurd c9 (dq_sub1 i hi j hj hp)
    · refine V.iload_n cx dJ3_sub_8 rfl 0 rfl ?_
      refine V.iload_n cx dJ3_sub_9 rfl 2 rfl ?_
      refine V.iadd cx dJ3_sub_10 ?_
      refine V.istore_n (lv' := [(0, .int (((nI i) - (nI j)) + (nI 17))), (1, .int (nI j)), (2, .int (nI 17))]) cx dJ3_sub_11 rfl (by decide) rfl ?_
      refine V.iload_n cx dJ3_sub_12 rfl 0 rfl ?_
      refine V.toi (y := nI ((i + 17 - j) % 17)) (dq_sub2 i hi j hj hp) ?_
      exact V.ireturn (x := (nI ((i + 17 - j) % 17))) cx rfl rfl ⟨rfl, rfl⟩ (by decide) (by decide) dJ3_sub_13
  · refine V.iload_n cx dJ3_sub_0 rfl 0 rfl ?_
    refine V.iload_n cx dJ3_sub_1 rfl 1 rfl ?_
    refine V.isub cx dJ3_sub_2 ?_
    refine V.toi (pk_sub (a := i) (b := j) hp) ?_
    refine V.dup cx dJ3_sub_3 rfl ?_
    refine V.istore_n (lv' := [(0, .int (nI (i - j))), (1, .int (nI j)), (2, .int (nI 17))]) cx dJ3_sub_4 rfl (by decide) rfl ?_
    refine V.nif_ge (a := i - j) (tgt := 12) cx (by omega) dJ3_sub_5 (by decide) ?_
    refine V.iload_n cx dJ3_sub_12 rfl 0 rfl ?_
    refine V.toi (y := nI ((i + 17 - j) % 17)) (by rw [show (i + 17 - j) % 17 = i - j by omega]) ?_
    exact V.ireturn (x := (nI ((i + 17 - j) % 17))) cx rfl rfl ⟨rfl, rfl⟩ (by decide) (by decide) dJ3_sub_13
abbrev cJ3_elementAt : ByteArray := prog_48_method_10_code
def yJ3_elementAt : MethodName := ⟨RJ3, "elementAt", "([Ljava/lang/Object;I)Ljava/lang/Object;"⟩
def dkwJ3_elementAt_0 : List UInt8 := [42, 27, 50, 176]
abbrev dktJ3_elementAt_0 : List UInt8 := dkwJ3_elementAt_0 ++ []
theorem dksJ3_elementAt_0 : cJ3_elementAt.data.toList.drop 0 = dktJ3_elementAt_0 := by decide +kernel
theorem dJ3_elementAt_0 : decode cJ3_elementAt 0 = .ok (.aload_n 0, 1) := dk_42 (dk_at dksJ3_elementAt_0 0 rfl rfl)
theorem dJ3_elementAt_1 : decode cJ3_elementAt 1 = .ok (.iload_n 1, 1) := dk_27 (dk_at dksJ3_elementAt_0 1 rfl rfl)
theorem dJ3_elementAt_2 : decode cJ3_elementAt 2 = .ok (.aaload, 1) := dk_50 (dk_at dksJ3_elementAt_0 2 rfl rfl)
theorem dJ3_elementAt_3 : decode cJ3_elementAt 3 = .ok (.areturn, 1) := dk_176 (dk_at dksJ3_elementAt_0 3 rfl rfl)
set_option maxHeartbeats 4000000 in
theorem m_dqAt (l : Launch) (hl : l.stackTraces = false) (g : GE) (A : Nat → Prop) (h : AHT) (el i : Nat) (f : Nat → Option Nat) (he : h el = some (aQ g 5 17 f)) (hi : i < 17) : U_ l g A yJ3_elementAt 1 0 0 [.ref el, .int (nI i)] h (fun v h' => v = some (va_rf (f i)) ∧ h = h') noX := by
  refine U_.of (own := RJ3) (cc := cJ3_elementAt) (L := 2) (ret := (some (Jvm.ClassFile.FieldType.object "java/lang/Object"))) hl rfl (plainFor_of_name (by decide)) ⟨by decide, by decide⟩ q1688 q87 (by decide) (fun e => absurd e (by decide)) (Nat.le_of_ble_eq_true rfl) (fun κ cx => ?_)
  show V g A κ _ _ 0 0 h 0 [(0, .ref el), (1, .int (nI i))] []
  refine V.aload_n cx dJ3_elementAt_0 rfl 0 rfl ?_
  refine V.iload_n cx dJ3_elementAt_1 rfl 1 rfl ?_
  refine V.aaload (j := i) cx he rfl rfl (by omega) (by decide) dJ3_elementAt_2 ?_
  exact V.areturnq cx rfl (Or.inl ⟨_, rfl⟩) ⟨rfl, rfl⟩ (by decide) (by decide) dJ3_elementAt_3
abbrev cJ3_isEmpty : ByteArray := prog_48_method_38_code
def yJ3_isEmpty : MethodName := ⟨RJ3, "isEmpty", "()Z"⟩
def dkwJ3_isEmpty_0 : List UInt8 := [42, 180, 0, 24, 42, 180, 0, 20, 160, 0, 7, 4, 167, 0, 4, 3, 172]
abbrev dktJ3_isEmpty_0 : List UInt8 := dkwJ3_isEmpty_0 ++ []
theorem dksJ3_isEmpty_0 : cJ3_isEmpty.data.toList.drop 0 = dktJ3_isEmpty_0 := by decide +kernel
theorem dJ3_isEmpty_0 : decode cJ3_isEmpty 0 = .ok (.aload_n 0, 1) := dk_42 (dk_at dksJ3_isEmpty_0 0 rfl rfl)
theorem dJ3_isEmpty_1 : decode cJ3_isEmpty 1 = .ok (.getfield 24, 3) := dk_180 0 24 (dk_at dksJ3_isEmpty_0 1 rfl rfl)
theorem dJ3_isEmpty_4 : decode cJ3_isEmpty 4 = .ok (.aload_n 0, 1) := dk_42 (dk_at dksJ3_isEmpty_0 4 rfl rfl)
theorem dJ3_isEmpty_5 : decode cJ3_isEmpty 5 = .ok (.getfield 20, 3) := dk_180 0 20 (dk_at dksJ3_isEmpty_0 5 rfl rfl)
theorem dJ3_isEmpty_8 : decode cJ3_isEmpty 8 = .ok (.if_icmp .ne 7, 3) := dk_160 0 7 (dk_at dksJ3_isEmpty_0 8 rfl rfl)
theorem dJ3_isEmpty_11 : decode cJ3_isEmpty 11 = .ok (.iconst 1, 1) := dk_4 (dk_at dksJ3_isEmpty_0 11 rfl rfl)
theorem dJ3_isEmpty_12 : decode cJ3_isEmpty 12 = .ok (.goto 4, 3) := dk_167 0 4 (dk_at dksJ3_isEmpty_0 12 rfl rfl)
theorem dJ3_isEmpty_15 : decode cJ3_isEmpty 15 = .ok (.iconst 0, 1) := dk_3 (dk_at dksJ3_isEmpty_0 15 rfl rfl)
theorem dJ3_isEmpty_16 : decode cJ3_isEmpty 16 = .ok (.ireturn, 1) := dk_172 (dk_at dksJ3_isEmpty_0 16 rfl rfl)
set_option maxHeartbeats 4000000 in
theorem m_dqEmpty (l : Launch) (hl : l.stackTraces = false) (g : GE) (A : Nat → Prop) (h : AHT) (dq el : Nat) (xs : List Nat) (hD : DQ g h dq el xs) : U_ l g A yJ3_isEmpty 1 0 0 [.ref dq] h (fun v h' => v = some (.int (b2 (decide (xs = [])))) ∧ h = h') noX := by
  refine U_.of (own := RJ3) (cc := cJ3_isEmpty) (L := 1) (ret := (some Jvm.ClassFile.FieldType.boolean)) hl rfl (plainFor_of_name (by decide)) ⟨by decide, by decide⟩ q1792 q87 (by decide) (fun e => absurd e (by decide)) (Nat.le_of_ble_eq_true rfl) (fun κ cx => ?_)
  show V g A κ _ _ 0 0 h 0 [(0, .ref dq)] []
  obtain ⟨hd, tl, f, e1, e2, e3, e4, e5, e6, e7⟩ := hD
  have nde : dq ≠ el := fun z => by rw [z, e2] at e1; cases e1
  refine V.aload_n cx dJ3_isEmpty_0 rfl 0 rfl ?_
  refine V.get cx kJ3 e1 1 (by decide) q211 rfl rfl dJ3_isEmpty_1 ?_
  refine V.aload_n cx dJ3_isEmpty_4 rfl 0 rfl ?_
  refine V.get cx kJ3 e1 2 (by decide) q212 rfl rfl dJ3_isEmpty_5 ?_
  refine V.nicmp_ne (a := hd) (b := tl) (tgt := 15) cx (by omega) (by omega) dJ3_isEmpty_8 (by decide) (fun c9 => ?_) (fun c9 => ?_)
  · refine V.iconst (v := (nI 0)) cx dJ3_isEmpty_15 (by decide) ?_
    refine V.toi (y := b2 (decide (xs = []))) (by rw [decide_eq_false (fun z => by rw [z] at e5; exact c9 (by rw [e5]; simp; omega))]; decide) ?_
    exact V.ireturn (x := (b2 (decide (xs = [])))) cx rfl b2_narrow ⟨rfl, rfl⟩ (by decide) (by decide) dJ3_isEmpty_16
  · refine V.iconst (v := (nI 1)) cx dJ3_isEmpty_11 (by decide) ?_
    refine V.goto (tgt := 16) cx dJ3_isEmpty_12 (by decide) ?_
    refine V.toi (y := b2 (decide (xs = []))) (by rw [decide_eq_true (List.eq_nil_of_length_eq_zero (by omega))]; decide) ?_
    exact V.ireturn (x := (b2 (decide (xs = [])))) cx rfl b2_narrow ⟨rfl, rfl⟩ (by decide) (by decide) dJ3_isEmpty_16
abbrev cJ3_size : ByteArray := prog_48_method_37_code
def yJ3_size : MethodName := ⟨RJ3, "size", "()I"⟩
def dkwJ3_size_0 : List UInt8 := [42, 180, 0, 20, 42, 180, 0, 24, 42, 180, 0, 3, 190, 184, 0, 127, 172]
abbrev dktJ3_size_0 : List UInt8 := dkwJ3_size_0 ++ []
theorem dksJ3_size_0 : cJ3_size.data.toList.drop 0 = dktJ3_size_0 := by decide +kernel
theorem dJ3_size_0 : decode cJ3_size 0 = .ok (.aload_n 0, 1) := dk_42 (dk_at dksJ3_size_0 0 rfl rfl)
theorem dJ3_size_1 : decode cJ3_size 1 = .ok (.getfield 20, 3) := dk_180 0 20 (dk_at dksJ3_size_0 1 rfl rfl)
theorem dJ3_size_4 : decode cJ3_size 4 = .ok (.aload_n 0, 1) := dk_42 (dk_at dksJ3_size_0 4 rfl rfl)
theorem dJ3_size_5 : decode cJ3_size 5 = .ok (.getfield 24, 3) := dk_180 0 24 (dk_at dksJ3_size_0 5 rfl rfl)
theorem dJ3_size_8 : decode cJ3_size 8 = .ok (.aload_n 0, 1) := dk_42 (dk_at dksJ3_size_0 8 rfl rfl)
theorem dJ3_size_9 : decode cJ3_size 9 = .ok (.getfield 3, 3) := dk_180 0 3 (dk_at dksJ3_size_0 9 rfl rfl)
theorem dJ3_size_12 : decode cJ3_size 12 = .ok (.arraylength, 1) := dk_190 (dk_at dksJ3_size_0 12 rfl rfl)
theorem dJ3_size_13 : decode cJ3_size 13 = .ok (.invokestatic 127, 3) := dk_184 0 127 (dk_at dksJ3_size_0 13 rfl rfl)
theorem dJ3_size_16 : decode cJ3_size 16 = .ok (.ireturn, 1) := dk_172 (dk_at dksJ3_size_0 16 rfl rfl)
set_option maxHeartbeats 4000000 in
theorem m_dqSize (l : Launch) (hl : l.stackTraces = false) (g : GE) (A : Nat → Prop) (h : AHT) (dq el : Nat) (xs : List Nat) (hD : DQ g h dq el xs) : U_ l g A yJ3_size 2 0 0 [.ref dq] h (fun v h' => v = some (.int (nI xs.length)) ∧ h = h') noX := by
  refine U_.of (own := RJ3) (cc := cJ3_size) (L := 1) (ret := (some Jvm.ClassFile.FieldType.int)) hl rfl (plainFor_of_name (by decide)) ⟨by decide, by decide⟩ q350 q87 (by decide) (fun e => absurd e (by decide)) (Nat.le_of_ble_eq_true rfl) (fun κ cx => ?_)
  show V g A κ _ _ 0 0 h 0 [(0, .ref dq)] []
  obtain ⟨hd, tl, f, e1, e2, e3, e4, e5, e6, e7⟩ := hD
  have nde : dq ≠ el := fun z => by rw [z, e2] at e1; cases e1
  refine V.aload_n cx dJ3_size_0 rfl 0 rfl ?_
  refine V.get cx kJ3 e1 2 (by decide) q212 rfl rfl dJ3_size_1 ?_
  refine V.aload_n cx dJ3_size_4 rfl 0 rfl ?_
  refine V.get cx kJ3 e1 1 (by decide) q211 rfl rfl dJ3_size_5 ?_
  refine V.aload_n cx dJ3_size_8 rfl 0 rfl ?_
  refine V.get cx kJ3 e1 0 (by decide) q208 rfl rfl dJ3_size_9 ?_
  refine V.alen (t0 := 5) cx e2 rfl dJ3_size_12 ?_
  show V g A κ _ _ 0 0 h 13 [(0, .ref dq)] [.int (nI 17), .int (nI hd), .int (nI tl)]
  refine V.callS (As := [.int (nI tl), .int (nI hd), .int (nI 17)]) (rest := []) cx (m_dqSub l hl g A h tl hd e4 e3) q351 q352 (na := 3) rfl (by decide +kernel) (Nat.le_of_ble_eq_true rfl) (by decide) (by decide) (by decide) rfl dJ3_size_13 (fun _ _ _ hx => hx.elim) (fun v1 h2 hp => ?_)
  obtain ⟨rfl, rfl⟩ := hp
  show V g A κ _ _ 0 0 h 16 [(0, .ref dq)] [.int (nI ((tl + 17 - hd) % 17))]
  refine V.toi (y := nI xs.length) (by rw [show (tl + 17 - hd) % 17 = xs.length by omega]) ?_
  exact V.ireturn (x := (nI xs.length)) cx rfl rfl ⟨rfl, rfl⟩ (by decide) (by decide) dJ3_size_16
abbrev cJ3_init : ByteArray := prog_48_method_3_code
def yJ3_init : MethodName := ⟨RJ3, "<init>", "()V"⟩
def dkwJ3_init_0 : List UInt8 := [42, 183, 0, 42, 42, 16, 17, 189, 0, 47, 181, 0, 3, 177]
abbrev dktJ3_init_0 : List UInt8 := dkwJ3_init_0 ++ []
theorem dksJ3_init_0 : cJ3_init.data.toList.drop 0 = dktJ3_init_0 := by decide +kernel
theorem dJ3_init_0 : decode cJ3_init 0 = .ok (.aload_n 0, 1) := dk_42 (dk_at dksJ3_init_0 0 rfl rfl)
theorem dJ3_init_1 : decode cJ3_init 1 = .ok (.invokespecial 42, 3) := dk_183 0 42 (dk_at dksJ3_init_0 1 rfl rfl)
theorem dJ3_init_4 : decode cJ3_init 4 = .ok (.aload_n 0, 1) := dk_42 (dk_at dksJ3_init_0 4 rfl rfl)
theorem dJ3_init_5 : decode cJ3_init 5 = .ok (.bipush 17, 2) := dk_16 17 (dk_at dksJ3_init_0 5 rfl rfl)
theorem dJ3_init_7 : decode cJ3_init 7 = .ok (.anewarray 47, 3) := dk_189 0 47 (dk_at dksJ3_init_0 7 rfl rfl)
theorem dJ3_init_10 : decode cJ3_init 10 = .ok (.putfield 3, 3) := dk_181 0 3 (dk_at dksJ3_init_0 10 rfl rfl)
theorem dJ3_init_13 : decode cJ3_init 13 = .ok (.return_, 1) := dk_177 (dk_at dksJ3_init_0 13 rfl rfl)
set_option maxHeartbeats 4000000 in
theorem m_dqInit (l : Launch) (hl : l.stackTraces = false) (g : GE) (A : Nat → Prop) (h : AHT) (dq : Nat) (hq : h dq = some (ob 11 [.null, .int 0, .int 0])) : U_ l g A yJ3_init 3 1 17 [.ref dq] h (fun v h' => v = none ∧ ∃ el, h el = none ∧ DQ g h' dq el [] ∧ Off [dq] h h') noX := by
  refine U_.of (own := RJ3) (cc := cJ3_init) (L := 1) (ret := (none)) hl rfl (plainFor_of_name (by decide)) ⟨by decide, by decide⟩ q201 q87 (by decide) (fun _ => rfl) (Nat.le_of_ble_eq_true rfl) (fun κ cx => ?_)
  show V g A κ _ _ 0 0 h 0 [(0, .ref dq)] []
  refine V.aload_n cx dJ3_init_0 rfl 0 rfl ?_
  refine V.callI (As := []) (rest := []) cx (m_acolInit l hl g A h dq) q202 q203 rfl (na := 0) rfl (by decide +kernel) (Nat.le_of_ble_eq_true rfl) (by decide) (by decide) (by decide) rfl dJ3_init_1 (fun _ _ _ hx => hx.elim) (fun v1 h2 hp => ?_)
  obtain ⟨rfl, rfl⟩ := hp
  show V g A κ _ _ 0 0 h 4 [(0, .ref dq)] []
  refine V.aload_n cx dJ3_init_4 rfl 0 rfl ?_
  refine V.bipush (v := (nI 17)) cx dJ3_init_5 (by decide) ?_
  refine V.newq (t0 := 5) (N := 17) cx q206 (by decide) rfl rfl (by decide) (by decide) (by decide) dJ3_init_7 (fun q3 hn_q3 => ?_)
  refine V.put (ty := tyJ3 0) cx kJ3 ((up_n (ne_of hq hn_q3)).trans hq) 0 (by decide) rfl (tyJ3_ok 0 (by decide)) rfl rfl (Nat.le_of_ble_eq_true rfl) q208 rfl dJ3_init_10 ?_
  show V g A κ _ _ 1 17 (up (up h q3 (aQ g 5 17 (fun _ => none))) dq (ob 11 [.ref q3, .int 0, .int 0])) 13 [(0, .ref dq)] []
  exact V.vreturn cx rfl ⟨rfl, q3, hn_q3, ⟨0, 0, fun _ => none, up_s, (up_n (Ne.symm (ne_of hq hn_q3))).trans up_s, by decide, by decide, rfl, by simp, fun i _ => rfl⟩, (Off.rf.new hn_q3).put List.mem_cons_self⟩ (by decide) (by decide) dJ3_init_13
abbrev cJ3_addLast : ByteArray := prog_48_method_13_code
def yJ3_addLast : MethodName := ⟨RJ3, "addLast", "(Ljava/lang/Object;)V"⟩
def dkwJ3_addLast_2 : List UInt8 := [182, 0, 71, 177]
abbrev dktJ3_addLast_2 : List UInt8 := dkwJ3_addLast_2 ++ []
def dkwJ3_addLast_1 : List UInt8 := [42, 180, 0, 24, 42, 42, 180, 0, 20, 44, 190, 184, 0, 74, 90, 181, 0, 20, 160, 0, 8, 42, 4]
abbrev dktJ3_addLast_1 : List UInt8 := dkwJ3_addLast_1 ++ dktJ3_addLast_2
def dkwJ3_addLast_0 : List UInt8 := [43, 199, 0, 11, 187, 0, 65, 89, 183, 0, 67, 191, 42, 180, 0, 3, 77, 44, 42, 180, 0, 20, 43, 83]
abbrev dktJ3_addLast_0 : List UInt8 := dkwJ3_addLast_0 ++ dktJ3_addLast_1
theorem dksJ3_addLast_0 : cJ3_addLast.data.toList.drop 0 = dktJ3_addLast_0 := by decide +kernel
theorem dksJ3_addLast_1 : cJ3_addLast.data.toList.drop 24 = dktJ3_addLast_1 := dk_seg dksJ3_addLast_0 24 rfl rfl
theorem dksJ3_addLast_2 : cJ3_addLast.data.toList.drop 47 = dktJ3_addLast_2 := dk_seg dksJ3_addLast_1 23 rfl rfl
theorem dJ3_addLast_0 : decode cJ3_addLast 0 = .ok (.aload_n 1, 1) := dk_43 (dk_at dksJ3_addLast_0 0 rfl rfl)
theorem dJ3_addLast_1 : decode cJ3_addLast 1 = .ok (.ifnonnull 11, 3) := dk_199 0 11 (dk_at dksJ3_addLast_0 1 rfl rfl)
theorem dJ3_addLast_4 : decode cJ3_addLast 4 = .ok (.new 65, 3) := dk_187 0 65 (dk_at dksJ3_addLast_0 4 rfl rfl)
theorem dJ3_addLast_7 : decode cJ3_addLast 7 = .ok (.dup, 1) := dk_89 (dk_at dksJ3_addLast_0 7 rfl rfl)
theorem dJ3_addLast_8 : decode cJ3_addLast 8 = .ok (.invokespecial 67, 3) := dk_183 0 67 (dk_at dksJ3_addLast_0 8 rfl rfl)
theorem dJ3_addLast_11 : decode cJ3_addLast 11 = .ok (.athrow, 1) := dk_191 (dk_at dksJ3_addLast_0 11 rfl rfl)
theorem dJ3_addLast_12 : decode cJ3_addLast 12 = .ok (.aload_n 0, 1) := dk_42 (dk_at dksJ3_addLast_0 12 rfl rfl)
theorem dJ3_addLast_13 : decode cJ3_addLast 13 = .ok (.getfield 3, 3) := dk_180 0 3 (dk_at dksJ3_addLast_0 13 rfl rfl)
theorem dJ3_addLast_16 : decode cJ3_addLast 16 = .ok (.astore_n 2, 1) := dk_77 (dk_at dksJ3_addLast_0 16 rfl rfl)
theorem dJ3_addLast_17 : decode cJ3_addLast 17 = .ok (.aload_n 2, 1) := dk_44 (dk_at dksJ3_addLast_0 17 rfl rfl)
theorem dJ3_addLast_18 : decode cJ3_addLast 18 = .ok (.aload_n 0, 1) := dk_42 (dk_at dksJ3_addLast_0 18 rfl rfl)
theorem dJ3_addLast_19 : decode cJ3_addLast 19 = .ok (.getfield 20, 3) := dk_180 0 20 (dk_at dksJ3_addLast_0 19 rfl rfl)
theorem dJ3_addLast_22 : decode cJ3_addLast 22 = .ok (.aload_n 1, 1) := dk_43 (dk_at dksJ3_addLast_0 22 rfl rfl)
theorem dJ3_addLast_23 : decode cJ3_addLast 23 = .ok (.aastore, 1) := dk_83 (dk_at dksJ3_addLast_0 23 rfl rfl)
theorem dJ3_addLast_24 : decode cJ3_addLast 24 = .ok (.aload_n 0, 1) := dk_42 (dk_at dksJ3_addLast_1 0 rfl rfl)
theorem dJ3_addLast_25 : decode cJ3_addLast 25 = .ok (.getfield 24, 3) := dk_180 0 24 (dk_at dksJ3_addLast_1 1 rfl rfl)
theorem dJ3_addLast_28 : decode cJ3_addLast 28 = .ok (.aload_n 0, 1) := dk_42 (dk_at dksJ3_addLast_1 4 rfl rfl)
theorem dJ3_addLast_29 : decode cJ3_addLast 29 = .ok (.aload_n 0, 1) := dk_42 (dk_at dksJ3_addLast_1 5 rfl rfl)
theorem dJ3_addLast_30 : decode cJ3_addLast 30 = .ok (.getfield 20, 3) := dk_180 0 20 (dk_at dksJ3_addLast_1 6 rfl rfl)
theorem dJ3_addLast_33 : decode cJ3_addLast 33 = .ok (.aload_n 2, 1) := dk_44 (dk_at dksJ3_addLast_1 9 rfl rfl)
theorem dJ3_addLast_34 : decode cJ3_addLast 34 = .ok (.arraylength, 1) := dk_190 (dk_at dksJ3_addLast_1 10 rfl rfl)
theorem dJ3_addLast_35 : decode cJ3_addLast 35 = .ok (.invokestatic 74, 3) := dk_184 0 74 (dk_at dksJ3_addLast_1 11 rfl rfl)
theorem dJ3_addLast_38 : decode cJ3_addLast 38 = .ok (.dup_x1, 1) := dk_90 (dk_at dksJ3_addLast_1 14 rfl rfl)
theorem dJ3_addLast_39 : decode cJ3_addLast 39 = .ok (.putfield 20, 3) := dk_181 0 20 (dk_at dksJ3_addLast_1 15 rfl rfl)
theorem dJ3_addLast_42 : decode cJ3_addLast 42 = .ok (.if_icmp .ne 8, 3) := dk_160 0 8 (dk_at dksJ3_addLast_1 18 rfl rfl)
theorem dJ3_addLast_45 : decode cJ3_addLast 45 = .ok (.aload_n 0, 1) := dk_42 (dk_at dksJ3_addLast_1 21 rfl rfl)
theorem dJ3_addLast_46 : decode cJ3_addLast 46 = .ok (.iconst 1, 1) := dk_4 (dk_at dksJ3_addLast_1 22 rfl rfl)
theorem dJ3_addLast_47 : decode cJ3_addLast 47 = .ok (.invokevirtual 71, 3) := dk_182 0 71 (dk_at dksJ3_addLast_2 0 rfl rfl)
theorem dJ3_addLast_50 : decode cJ3_addLast 50 = .ok (.return_, 1) := dk_177 (dk_at dksJ3_addLast_2 3 rfl rfl)
set_option maxHeartbeats 4000000 in
theorem m_dqAdd (l : Launch) (hl : l.stackTraces = false) (g : GE) (A : Nat → Prop) (h : AHT) (dq el : Nat) (xs : List Nat) (hD : DQ g h dq el xs) (x : Nat) (C : String) (hC : Cond.castable C "java/lang/Object" ∈ lw_tbl) (hx : Rv g h x C) (hn : xs.length < 16) : U_ l g A yJ3_addLast 2 0 0 [.ref dq, .ref x] h (fun v h' => v = none ∧ DQ g h' dq el (xs ++ [x]) ∧ Off [dq, el] h h') noX := by
  refine U_.of (own := RJ3) (cc := cJ3_addLast) (L := 3) (ret := (none)) hl rfl (plainFor_of_name (by decide)) ⟨by decide, by decide⟩ q1695 q87 (by decide) (fun e => absurd e (by decide)) (Nat.le_of_ble_eq_true rfl) (fun κ cx => ?_)
  show V g A κ _ _ 0 0 h 0 [(0, .ref dq), (1, .ref x)] []
  obtain ⟨hd, tl, f, e1, e2, e3, e4, e5, e6, e7⟩ := hD
  have nde : dq ≠ el := fun z => by rw [z, e2] at e1; cases e1
  refine V.aload_n cx dJ3_addLast_0 rfl 1 rfl ?_
  refine V.ifnonnull (tgt := 12) cx dJ3_addLast_1 (by decide) ?_
  refine V.aload_n cx dJ3_addLast_12 rfl 0 rfl ?_
  refine V.get cx kJ3 e1 0 (by decide) q208 rfl rfl dJ3_addLast_13 ?_
  refine V.astore_n (lv' := [(2, .ref el), (0, .ref dq), (1, .ref x)]) cx dJ3_addLast_16 rfl (by decide) rfl ?_
  refine V.aload_n cx dJ3_addLast_17 rfl 0 rfl ?_
  refine V.aload_n cx dJ3_addLast_18 rfl 1 rfl ?_
  refine V.get cx kJ3 e1 2 (by decide) q212 rfl rfl dJ3_addLast_19 ?_
  refine V.aload_n cx dJ3_addLast_22 rfl 2 rfl ?_
  refine V.aastore (j := tl) (C := C) cx e2 rfl rfl (by omega) (by decide) hx (Or.inr hC) dJ3_addLast_23 ?_
  show V g A κ _ _ 0 0 (up h el (aQ g 5 17 (va_up f tl (some x)))) 24 [(2, .ref el), (0, .ref dq), (1, .ref x)] []
  refine V.aload_n cx dJ3_addLast_24 rfl 1 rfl ?_
  refine V.get cx kJ3 ((up_n nde).trans e1) 1 (by decide) q211 rfl rfl dJ3_addLast_25 ?_
  refine V.aload_n cx dJ3_addLast_28 rfl 1 rfl ?_
  refine V.aload_n cx dJ3_addLast_29 rfl 1 rfl ?_
  refine V.get cx kJ3 ((up_n nde).trans e1) 2 (by decide) q212 rfl rfl dJ3_addLast_30 ?_
  refine V.aload_n cx dJ3_addLast_33 rfl 0 rfl ?_
  refine V.alen (t0 := 5) cx up_s rfl dJ3_addLast_34 ?_
  show V g A κ _ _ 0 0 (up h el (aQ g 5 17 (va_up f tl (some x)))) 35 [(2, .ref el), (0, .ref dq), (1, .ref x)] [.int (nI 17), .int (nI tl), .ref dq, .int (nI hd)]
  refine V.callS (As := [.int (nI tl), .int (nI 17)]) (rest := [.ref dq, .int (nI hd)]) cx (m_dqInc l hl g A (up h el (aQ g 5 17 (va_up f tl (some x)))) tl e4) q1689 q528 (na := 2) rfl (by decide +kernel) (Nat.le_of_ble_eq_true rfl) (by decide) (by decide) (by decide) rfl dJ3_addLast_35 (fun _ _ _ hx => hx.elim) (fun v1 h2 hp => ?_)
  obtain ⟨rfl, rfl⟩ := hp
  show V g A κ _ _ 0 0 (up h el (aQ g 5 17 (va_up f tl (some x)))) 38 [(2, .ref el), (0, .ref dq), (1, .ref x)] [.int (nI ((tl + 1) % 17)), .ref dq, .int (nI hd)]
  refine V.dup_x1 cx dJ3_addLast_38 rfl rfl ?_
  refine V.put (ty := tyJ3 2) cx kJ3 ((up_n nde).trans e1) 2 (by decide) rfl (tyJ3_ok 2 (by decide)) rfl rfl (Nat.le_of_ble_eq_true rfl) q212 rfl dJ3_addLast_39 ?_
  show V g A κ _ _ 0 0 (up (up h el (aQ g 5 17 (va_up f tl (some x)))) dq (ob 11 [.ref el, .int (nI hd), .int (nI ((tl + 1) % 17))])) 42 [(2, .ref el), (0, .ref dq), (1, .ref x)] [.int (nI ((tl + 1) % 17)), .int (nI hd)]
  refine V.nicmp_ne (a := hd) (b := ((tl + 1) % 17)) (tgt := 50) cx (by omega) (by omega) dJ3_addLast_42 (by decide) (fun c9 => ?_) (fun c9 => ?_)
  · exact V.vreturn cx rfl ⟨rfl, ⟨hd, (tl + 1) % 17, _, up_s, (up_n (Ne.symm nde)).trans up_s, e3, Nat.mod_lt _ (by decide), by rw [List.length_append, List.length_singleton]; omega, by rw [List.length_append, List.length_singleton]; omega, fun i hi => by
        unfold va_up
        by_cases z : (hd + i) % 17 = tl
        · rw [if_pos z, show i = xs.length by omega]; simp
        · rw [if_neg z, e7 i hi]
          have z2 : i ≠ xs.length := fun z3 => z (by omega)
          rcases Nat.lt_or_ge i xs.length with z3 | z3
          · rw [List.getElem?_append_left z3]
          · rw [List.getElem?_eq_none z3, List.getElem?_eq_none (by rw [List.length_append, List.length_singleton]; omega)]⟩, (Off.rf.put (List.mem_cons_of_mem _ List.mem_cons_self)).put List.mem_cons_self⟩ (by decide) (by decide) dJ3_addLast_50
  · exact absurd c9 (by omega)
abbrev cJ3_pollFirst : ByteArray := prog_48_method_20_code
def yJ3_pollFirst : MethodName := ⟨RJ3, "pollFirst", "()Ljava/lang/Object;"⟩
def dkwJ3_pollFirst_1 : List UInt8 := [42, 28, 43, 190, 184, 0, 74, 181, 0, 24, 45, 176]
abbrev dktJ3_pollFirst_1 : List UInt8 := dkwJ3_pollFirst_1 ++ []
def dkwJ3_pollFirst_0 : List UInt8 := [42, 180, 0, 3, 89, 76, 42, 180, 0, 24, 89, 61, 184, 0, 103, 78, 45, 198, 0, 17, 43, 28, 1, 83]
abbrev dktJ3_pollFirst_0 : List UInt8 := dkwJ3_pollFirst_0 ++ dktJ3_pollFirst_1
theorem dksJ3_pollFirst_0 : cJ3_pollFirst.data.toList.drop 0 = dktJ3_pollFirst_0 := by decide +kernel
theorem dksJ3_pollFirst_1 : cJ3_pollFirst.data.toList.drop 24 = dktJ3_pollFirst_1 := dk_seg dksJ3_pollFirst_0 24 rfl rfl
theorem dJ3_pollFirst_0 : decode cJ3_pollFirst 0 = .ok (.aload_n 0, 1) := dk_42 (dk_at dksJ3_pollFirst_0 0 rfl rfl)
theorem dJ3_pollFirst_1 : decode cJ3_pollFirst 1 = .ok (.getfield 3, 3) := dk_180 0 3 (dk_at dksJ3_pollFirst_0 1 rfl rfl)
theorem dJ3_pollFirst_4 : decode cJ3_pollFirst 4 = .ok (.dup, 1) := dk_89 (dk_at dksJ3_pollFirst_0 4 rfl rfl)
theorem dJ3_pollFirst_5 : decode cJ3_pollFirst 5 = .ok (.astore_n 1, 1) := dk_76 (dk_at dksJ3_pollFirst_0 5 rfl rfl)
theorem dJ3_pollFirst_6 : decode cJ3_pollFirst 6 = .ok (.aload_n 0, 1) := dk_42 (dk_at dksJ3_pollFirst_0 6 rfl rfl)
theorem dJ3_pollFirst_7 : decode cJ3_pollFirst 7 = .ok (.getfield 24, 3) := dk_180 0 24 (dk_at dksJ3_pollFirst_0 7 rfl rfl)
theorem dJ3_pollFirst_10 : decode cJ3_pollFirst 10 = .ok (.dup, 1) := dk_89 (dk_at dksJ3_pollFirst_0 10 rfl rfl)
theorem dJ3_pollFirst_11 : decode cJ3_pollFirst 11 = .ok (.istore_n 2, 1) := dk_61 (dk_at dksJ3_pollFirst_0 11 rfl rfl)
theorem dJ3_pollFirst_12 : decode cJ3_pollFirst 12 = .ok (.invokestatic 103, 3) := dk_184 0 103 (dk_at dksJ3_pollFirst_0 12 rfl rfl)
theorem dJ3_pollFirst_15 : decode cJ3_pollFirst 15 = .ok (.astore_n 3, 1) := dk_78 (dk_at dksJ3_pollFirst_0 15 rfl rfl)
theorem dJ3_pollFirst_16 : decode cJ3_pollFirst 16 = .ok (.aload_n 3, 1) := dk_45 (dk_at dksJ3_pollFirst_0 16 rfl rfl)
theorem dJ3_pollFirst_17 : decode cJ3_pollFirst 17 = .ok (.ifnull 17, 3) := dk_198 0 17 (dk_at dksJ3_pollFirst_0 17 rfl rfl)
theorem dJ3_pollFirst_20 : decode cJ3_pollFirst 20 = .ok (.aload_n 1, 1) := dk_43 (dk_at dksJ3_pollFirst_0 20 rfl rfl)
theorem dJ3_pollFirst_21 : decode cJ3_pollFirst 21 = .ok (.iload_n 2, 1) := dk_28 (dk_at dksJ3_pollFirst_0 21 rfl rfl)
theorem dJ3_pollFirst_22 : decode cJ3_pollFirst 22 = .ok (.aconst_null, 1) := dk_1 (dk_at dksJ3_pollFirst_0 22 rfl rfl)
theorem dJ3_pollFirst_23 : decode cJ3_pollFirst 23 = .ok (.aastore, 1) := dk_83 (dk_at dksJ3_pollFirst_0 23 rfl rfl)
theorem dJ3_pollFirst_24 : decode cJ3_pollFirst 24 = .ok (.aload_n 0, 1) := dk_42 (dk_at dksJ3_pollFirst_1 0 rfl rfl)
theorem dJ3_pollFirst_25 : decode cJ3_pollFirst 25 = .ok (.iload_n 2, 1) := dk_28 (dk_at dksJ3_pollFirst_1 1 rfl rfl)
theorem dJ3_pollFirst_26 : decode cJ3_pollFirst 26 = .ok (.aload_n 1, 1) := dk_43 (dk_at dksJ3_pollFirst_1 2 rfl rfl)
theorem dJ3_pollFirst_27 : decode cJ3_pollFirst 27 = .ok (.arraylength, 1) := dk_190 (dk_at dksJ3_pollFirst_1 3 rfl rfl)
theorem dJ3_pollFirst_28 : decode cJ3_pollFirst 28 = .ok (.invokestatic 74, 3) := dk_184 0 74 (dk_at dksJ3_pollFirst_1 4 rfl rfl)
theorem dJ3_pollFirst_31 : decode cJ3_pollFirst 31 = .ok (.putfield 24, 3) := dk_181 0 24 (dk_at dksJ3_pollFirst_1 7 rfl rfl)
theorem dJ3_pollFirst_34 : decode cJ3_pollFirst 34 = .ok (.aload_n 3, 1) := dk_45 (dk_at dksJ3_pollFirst_1 10 rfl rfl)
theorem dJ3_pollFirst_35 : decode cJ3_pollFirst 35 = .ok (.areturn, 1) := dk_176 (dk_at dksJ3_pollFirst_1 11 rfl rfl)
set_option maxHeartbeats 4000000 in
theorem m_dqPollF (l : Launch) (hl : l.stackTraces = false) (g : GE) (A : Nat → Prop) (h : AHT) (dq el x : Nat) (xs : List Nat) (hD : DQ g h dq el (x :: xs)) : U_ l g A yJ3_pollFirst 2 0 0 [.ref dq] h (fun v h' => v = some (.ref x) ∧ DQ g h' dq el xs ∧ Off [dq, el] h h') noX := by
  refine U_.of (own := RJ3) (cc := cJ3_pollFirst) (L := 4) (ret := (some (Jvm.ClassFile.FieldType.object "java/lang/Object"))) hl rfl (plainFor_of_name (by decide)) ⟨by decide, by decide⟩ q1685 q87 (by decide) (fun e => absurd e (by decide)) (Nat.le_of_ble_eq_true rfl) (fun κ cx => ?_)
  show V g A κ _ _ 0 0 h 0 [(0, .ref dq)] []
  obtain ⟨hd, tl, f, e1, e2, e3, e4, e5, e6, e7⟩ := hD
  have nde : dq ≠ el := fun z => by rw [z, e2] at e1; cases e1
  rw [List.length_cons] at e5 e6
  have k0 : f hd = some x := by have := e7 0 (by decide); rw [Nat.add_zero, Nat.mod_eq_of_lt e3] at this; rw [this]; rfl
  refine V.aload_n cx dJ3_pollFirst_0 rfl 0 rfl ?_
  refine V.get cx kJ3 e1 0 (by decide) q208 rfl rfl dJ3_pollFirst_1 ?_
  refine V.dup cx dJ3_pollFirst_4 rfl ?_
  refine V.astore_n (lv' := [(1, .ref el), (0, .ref dq)]) cx dJ3_pollFirst_5 rfl (by decide) rfl ?_
  refine V.aload_n cx dJ3_pollFirst_6 rfl 1 rfl ?_
  refine V.get cx kJ3 e1 1 (by decide) q211 rfl rfl dJ3_pollFirst_7 ?_
  refine V.dup cx dJ3_pollFirst_10 rfl ?_
  refine V.istore_n (lv' := [(2, .int (nI hd)), (1, .ref el), (0, .ref dq)]) cx dJ3_pollFirst_11 rfl (by decide) rfl ?_
  refine V.callS (As := [.ref el, .int (nI hd)]) (rest := []) cx (m_dqAt l hl g A h el hd f e2 e3) q1686 q1687 (na := 2) rfl (by decide +kernel) (Nat.le_of_ble_eq_true rfl) (by decide) (by decide) (by decide) rfl dJ3_pollFirst_12 (fun _ _ _ hx => hx.elim) (fun v1 h2 hp => ?_)
  obtain ⟨rfl, rfl⟩ := hp
  show V g A κ _ _ 0 0 h 15 [(2, .int (nI hd)), (1, .ref el), (0, .ref dq)] [va_rf (f hd)]
  refine V.toq (o' := some x) k0 ?_
  show V g A κ _ _ 0 0 h 15 [(2, .int (nI hd)), (1, .ref el), (0, .ref dq)] [.ref x]
  refine V.astore_n (lv' := [(3, .ref x), (2, .int (nI hd)), (1, .ref el), (0, .ref dq)]) cx dJ3_pollFirst_15 rfl (by decide) rfl ?_
  refine V.aload_n cx dJ3_pollFirst_16 rfl 0 rfl ?_
  refine V.ifnull cx dJ3_pollFirst_17 ?_
  refine V.aload_n cx dJ3_pollFirst_20 rfl 2 rfl ?_
  refine V.iload_n cx dJ3_pollFirst_21 rfl 1 rfl ?_
  refine V.null cx dJ3_pollFirst_22 ?_
  refine V.aastoreN (j := hd) cx e2 rfl rfl (by omega) (by decide) dJ3_pollFirst_23 ?_
  show V g A κ _ _ 0 0 (up h el (aQ g 5 17 (va_up f hd none))) 24 [(3, .ref x), (2, .int (nI hd)), (1, .ref el), (0, .ref dq)] []
  refine V.aload_n cx dJ3_pollFirst_24 rfl 3 rfl ?_
  refine V.iload_n cx dJ3_pollFirst_25 rfl 1 rfl ?_
  refine V.aload_n cx dJ3_pollFirst_26 rfl 2 rfl ?_
  refine V.alen (t0 := 5) cx up_s rfl dJ3_pollFirst_27 ?_
  show V g A κ _ _ 0 0 (up h el (aQ g 5 17 (va_up f hd none))) 28 [(3, .ref x), (2, .int (nI hd)), (1, .ref el), (0, .ref dq)] [.int (nI 17), .int (nI hd), .ref dq]
  refine V.callS (As := [.int (nI hd), .int (nI 17)]) (rest := [.ref dq]) cx (m_dqInc l hl g A (up h el (aQ g 5 17 (va_up f hd none))) hd e3) q1689 q528 (na := 2) rfl (by decide +kernel) (Nat.le_of_ble_eq_true rfl) (by decide) (by decide) (by decide) rfl dJ3_pollFirst_28 (fun _ _ _ hx => hx.elim) (fun v3 h4 hp => ?_)
  obtain ⟨rfl, rfl⟩ := hp
  show V g A κ _ _ 0 0 (up h el (aQ g 5 17 (va_up f hd none))) 31 [(3, .ref x), (2, .int (nI hd)), (1, .ref el), (0, .ref dq)] [.int (nI ((hd + 1) % 17)), .ref dq]
  refine V.put (ty := tyJ3 1) cx kJ3 ((up_n nde).trans e1) 1 (by decide) rfl (tyJ3_ok 1 (by decide)) rfl rfl (Nat.le_of_ble_eq_true rfl) q211 rfl dJ3_pollFirst_31 ?_
  show V g A κ _ _ 0 0 (up (up h el (aQ g 5 17 (va_up f hd none))) dq (ob 11 [.ref el, .int (nI ((hd + 1) % 17)), .int (nI tl)])) 34 [(3, .ref x), (2, .int (nI hd)), (1, .ref el), (0, .ref dq)] []
  refine V.aload_n cx dJ3_pollFirst_34 rfl 0 rfl ?_
  exact V.areturn cx rfl (Or.inl ⟨_, rfl⟩) ⟨rfl, ⟨(hd + 1) % 17, tl, _, up_s, (up_n (Ne.symm nde)).trans up_s, Nat.mod_lt _ (by decide), e4, by omega, by omega, fun i hi => by
      unfold va_up
      by_cases z : ((hd + 1) % 17 + i) % 17 = hd
      · rw [if_pos z, List.getElem?_eq_none (by omega)]
      · rw [if_neg z, show ((hd + 1) % 17 + i) % 17 = (hd + (i + 1)) % 17 by omega, e7 (i + 1) (by omega)]; rfl⟩, (Off.rf.put (List.mem_cons_of_mem _ List.mem_cons_self)).put List.mem_cons_self⟩ (by decide) (by decide) dJ3_pollFirst_35
abbrev cJ3_removeFirst : ByteArray := prog_48_method_18_code
def yJ3_removeFirst : MethodName := ⟨RJ3, "removeFirst", "()Ljava/lang/Object;"⟩
def dkwJ3_removeFirst_0 : List UInt8 := [42, 182, 0, 93, 76, 43, 199, 0, 11, 187, 0, 97, 89, 183, 0, 99, 191, 43, 176]
abbrev dktJ3_removeFirst_0 : List UInt8 := dkwJ3_removeFirst_0 ++ []
theorem dksJ3_removeFirst_0 : cJ3_removeFirst.data.toList.drop 0 = dktJ3_removeFirst_0 := by decide +kernel
theorem dJ3_removeFirst_0 : decode cJ3_removeFirst 0 = .ok (.aload_n 0, 1) := dk_42 (dk_at dksJ3_removeFirst_0 0 rfl rfl)
theorem dJ3_removeFirst_1 : decode cJ3_removeFirst 1 = .ok (.invokevirtual 93, 3) := dk_182 0 93 (dk_at dksJ3_removeFirst_0 1 rfl rfl)
theorem dJ3_removeFirst_4 : decode cJ3_removeFirst 4 = .ok (.astore_n 1, 1) := dk_76 (dk_at dksJ3_removeFirst_0 4 rfl rfl)
theorem dJ3_removeFirst_5 : decode cJ3_removeFirst 5 = .ok (.aload_n 1, 1) := dk_43 (dk_at dksJ3_removeFirst_0 5 rfl rfl)
theorem dJ3_removeFirst_6 : decode cJ3_removeFirst 6 = .ok (.ifnonnull 11, 3) := dk_199 0 11 (dk_at dksJ3_removeFirst_0 6 rfl rfl)
theorem dJ3_removeFirst_9 : decode cJ3_removeFirst 9 = .ok (.new 97, 3) := dk_187 0 97 (dk_at dksJ3_removeFirst_0 9 rfl rfl)
theorem dJ3_removeFirst_12 : decode cJ3_removeFirst 12 = .ok (.dup, 1) := dk_89 (dk_at dksJ3_removeFirst_0 12 rfl rfl)
theorem dJ3_removeFirst_13 : decode cJ3_removeFirst 13 = .ok (.invokespecial 99, 3) := dk_183 0 99 (dk_at dksJ3_removeFirst_0 13 rfl rfl)
theorem dJ3_removeFirst_16 : decode cJ3_removeFirst 16 = .ok (.athrow, 1) := dk_191 (dk_at dksJ3_removeFirst_0 16 rfl rfl)
theorem dJ3_removeFirst_17 : decode cJ3_removeFirst 17 = .ok (.aload_n 1, 1) := dk_43 (dk_at dksJ3_removeFirst_0 17 rfl rfl)
theorem dJ3_removeFirst_18 : decode cJ3_removeFirst 18 = .ok (.areturn, 1) := dk_176 (dk_at dksJ3_removeFirst_0 18 rfl rfl)
set_option maxHeartbeats 4000000 in
theorem m_dqRemF (l : Launch) (hl : l.stackTraces = false) (g : GE) (A : Nat → Prop) (h : AHT) (dq el x : Nat) (xs : List Nat) (hD : DQ g h dq el (x :: xs)) : U_ l g A yJ3_removeFirst 3 0 0 [.ref dq] h (fun v h' => v = some (.ref x) ∧ DQ g h' dq el xs ∧ Off [dq, el] h h') noX := by
  refine U_.of (own := RJ3) (cc := cJ3_removeFirst) (L := 2) (ret := (some (Jvm.ClassFile.FieldType.object "java/lang/Object"))) hl rfl (plainFor_of_name (by decide)) ⟨by decide, by decide⟩ q1681 q87 (by decide) (fun e => absurd e (by decide)) (Nat.le_of_ble_eq_true rfl) (fun κ cx => ?_)
  show V g A κ _ _ 0 0 h 0 [(0, .ref dq)] []
  have hD0 := hD
  refine V.aload_n cx dJ3_removeFirst_0 rfl 0 rfl ?_
  refine V.callV (As := []) (rest := []) (C := "java/util/ArrayDeque") cx (m_dqPollF l hl g A h dq el x xs hD) rfl q1682 q1683 q1684 hD.rv (na := 0) rfl (by decide +kernel) (Nat.le_of_ble_eq_true rfl) (by decide) (by decide) (by decide) rfl dJ3_removeFirst_1 (fun _ _ _ hx => hx.elim) (fun v1 h2 hp => ?_)
  obtain ⟨rfl, z1, z2⟩ := hp
  show V g A κ _ _ 0 0 h2 4 [(0, .ref dq)] [.ref x]
  refine V.astore_n (lv' := [(1, .ref x), (0, .ref dq)]) cx dJ3_removeFirst_4 rfl (by decide) rfl ?_
  refine V.aload_n cx dJ3_removeFirst_5 rfl 0 rfl ?_
  refine V.ifnonnull (tgt := 17) cx dJ3_removeFirst_6 (by decide) ?_
  refine V.aload_n cx dJ3_removeFirst_17 rfl 0 rfl ?_
  exact V.areturn cx rfl (Or.inl ⟨_, rfl⟩) ⟨rfl, z1, z2⟩ (by decide) (by decide) dJ3_removeFirst_18
abbrev cJ3_pollLast : ByteArray := prog_48_method_21_code
def yJ3_pollLast : MethodName := ⟨RJ3, "pollLast", "()Ljava/lang/Object;"⟩
def dkwJ3_pollLast_1 : List UInt8 := [198, 0, 12, 43, 42, 28, 90, 181, 0, 20, 1, 83, 45, 176]
abbrev dktJ3_pollLast_1 : List UInt8 := dkwJ3_pollLast_1 ++ []
def dkwJ3_pollLast_0 : List UInt8 := [42, 180, 0, 3, 89, 76, 42, 180, 0, 20, 43, 190, 184, 0, 68, 89, 61, 184, 0, 103, 78, 45]
abbrev dktJ3_pollLast_0 : List UInt8 := dkwJ3_pollLast_0 ++ dktJ3_pollLast_1
theorem dksJ3_pollLast_0 : cJ3_pollLast.data.toList.drop 0 = dktJ3_pollLast_0 := by decide +kernel
theorem dksJ3_pollLast_1 : cJ3_pollLast.data.toList.drop 22 = dktJ3_pollLast_1 := dk_seg dksJ3_pollLast_0 22 rfl rfl
theorem dJ3_pollLast_0 : decode cJ3_pollLast 0 = .ok (.aload_n 0, 1) := dk_42 (dk_at dksJ3_pollLast_0 0 rfl rfl)
theorem dJ3_pollLast_1 : decode cJ3_pollLast 1 = .ok (.getfield 3, 3) := dk_180 0 3 (dk_at dksJ3_pollLast_0 1 rfl rfl)
theorem dJ3_pollLast_4 : decode cJ3_pollLast 4 = .ok (.dup, 1) := dk_89 (dk_at dksJ3_pollLast_0 4 rfl rfl)
theorem dJ3_pollLast_5 : decode cJ3_pollLast 5 = .ok (.astore_n 1, 1) := dk_76 (dk_at dksJ3_pollLast_0 5 rfl rfl)
theorem dJ3_pollLast_6 : decode cJ3_pollLast 6 = .ok (.aload_n 0, 1) := dk_42 (dk_at dksJ3_pollLast_0 6 rfl rfl)
theorem dJ3_pollLast_7 : decode cJ3_pollLast 7 = .ok (.getfield 20, 3) := dk_180 0 20 (dk_at dksJ3_pollLast_0 7 rfl rfl)
theorem dJ3_pollLast_10 : decode cJ3_pollLast 10 = .ok (.aload_n 1, 1) := dk_43 (dk_at dksJ3_pollLast_0 10 rfl rfl)
theorem dJ3_pollLast_11 : decode cJ3_pollLast 11 = .ok (.arraylength, 1) := dk_190 (dk_at dksJ3_pollLast_0 11 rfl rfl)
theorem dJ3_pollLast_12 : decode cJ3_pollLast 12 = .ok (.invokestatic 68, 3) := dk_184 0 68 (dk_at dksJ3_pollLast_0 12 rfl rfl)
theorem dJ3_pollLast_15 : decode cJ3_pollLast 15 = .ok (.dup, 1) := dk_89 (dk_at dksJ3_pollLast_0 15 rfl rfl)
theorem dJ3_pollLast_16 : decode cJ3_pollLast 16 = .ok (.istore_n 2, 1) := dk_61 (dk_at dksJ3_pollLast_0 16 rfl rfl)
theorem dJ3_pollLast_17 : decode cJ3_pollLast 17 = .ok (.invokestatic 103, 3) := dk_184 0 103 (dk_at dksJ3_pollLast_0 17 rfl rfl)
theorem dJ3_pollLast_20 : decode cJ3_pollLast 20 = .ok (.astore_n 3, 1) := dk_78 (dk_at dksJ3_pollLast_0 20 rfl rfl)
theorem dJ3_pollLast_21 : decode cJ3_pollLast 21 = .ok (.aload_n 3, 1) := dk_45 (dk_at dksJ3_pollLast_0 21 rfl rfl)
theorem dJ3_pollLast_22 : decode cJ3_pollLast 22 = .ok (.ifnull 12, 3) := dk_198 0 12 (dk_at dksJ3_pollLast_1 0 rfl rfl)
theorem dJ3_pollLast_25 : decode cJ3_pollLast 25 = .ok (.aload_n 1, 1) := dk_43 (dk_at dksJ3_pollLast_1 3 rfl rfl)
theorem dJ3_pollLast_26 : decode cJ3_pollLast 26 = .ok (.aload_n 0, 1) := dk_42 (dk_at dksJ3_pollLast_1 4 rfl rfl)
theorem dJ3_pollLast_27 : decode cJ3_pollLast 27 = .ok (.iload_n 2, 1) := dk_28 (dk_at dksJ3_pollLast_1 5 rfl rfl)
theorem dJ3_pollLast_28 : decode cJ3_pollLast 28 = .ok (.dup_x1, 1) := dk_90 (dk_at dksJ3_pollLast_1 6 rfl rfl)
theorem dJ3_pollLast_29 : decode cJ3_pollLast 29 = .ok (.putfield 20, 3) := dk_181 0 20 (dk_at dksJ3_pollLast_1 7 rfl rfl)
theorem dJ3_pollLast_32 : decode cJ3_pollLast 32 = .ok (.aconst_null, 1) := dk_1 (dk_at dksJ3_pollLast_1 10 rfl rfl)
theorem dJ3_pollLast_33 : decode cJ3_pollLast 33 = .ok (.aastore, 1) := dk_83 (dk_at dksJ3_pollLast_1 11 rfl rfl)
theorem dJ3_pollLast_34 : decode cJ3_pollLast 34 = .ok (.aload_n 3, 1) := dk_45 (dk_at dksJ3_pollLast_1 12 rfl rfl)
theorem dJ3_pollLast_35 : decode cJ3_pollLast 35 = .ok (.areturn, 1) := dk_176 (dk_at dksJ3_pollLast_1 13 rfl rfl)
set_option maxHeartbeats 4000000 in
theorem m_dqPollL (l : Launch) (hl : l.stackTraces = false) (g : GE) (A : Nat → Prop) (h : AHT) (dq el x : Nat) (xs : List Nat) (hD : DQ g h dq el (xs ++ [x])) : U_ l g A yJ3_pollLast 2 0 0 [.ref dq] h (fun v h' => v = some (.ref x) ∧ DQ g h' dq el xs ∧ Off [dq, el] h h') noX := by
  refine U_.of (own := RJ3) (cc := cJ3_pollLast) (L := 4) (ret := (some (Jvm.ClassFile.FieldType.object "java/lang/Object"))) hl rfl (plainFor_of_name (by decide)) ⟨by decide, by decide⟩ q2417 q87 (by decide) (fun e => absurd e (by decide)) (Nat.le_of_ble_eq_true rfl) (fun κ cx => ?_)
  show V g A κ _ _ 0 0 h 0 [(0, .ref dq)] []
  obtain ⟨hd, tl, f, e1, e2, e3, e4, e5, e6, e7⟩ := hD
  have nde : dq ≠ el := fun z => by rw [z, e2] at e1; cases e1
  rw [List.length_append, List.length_singleton] at e5 e6
  have hlt : (tl + 16) % 17 < 17 := Nat.mod_lt _ (by decide)
  have k0 : f ((tl + 16) % 17) = some x := by have := e7 xs.length (by omega); rw [show (hd + xs.length) % 17 = (tl + 16) % 17 by omega] at this; rw [this]; simp
  refine V.aload_n cx dJ3_pollLast_0 rfl 0 rfl ?_
  refine V.get cx kJ3 e1 0 (by decide) q208 rfl rfl dJ3_pollLast_1 ?_
  refine V.dup cx dJ3_pollLast_4 rfl ?_
  refine V.astore_n (lv' := [(1, .ref el), (0, .ref dq)]) cx dJ3_pollLast_5 rfl (by decide) rfl ?_
  refine V.aload_n cx dJ3_pollLast_6 rfl 1 rfl ?_
  refine V.get cx kJ3 e1 2 (by decide) q212 rfl rfl dJ3_pollLast_7 ?_
  refine V.aload_n cx dJ3_pollLast_10 rfl 0 rfl ?_
  refine V.alen (t0 := 5) cx e2 rfl dJ3_pollLast_11 ?_
  show V g A κ _ _ 0 0 h 12 [(1, .ref el), (0, .ref dq)] [.int (nI 17), .int (nI tl), .ref el]
  refine V.callS (As := [.int (nI tl), .int (nI 17)]) (rest := [.ref el]) cx (m_dqDec l hl g A h tl e4) q2418 q2419 (na := 2) rfl (by decide +kernel) (Nat.le_of_ble_eq_true rfl) (by decide) (by decide) (by decide) rfl dJ3_pollLast_12 (fun _ _ _ hx => hx.elim) (fun v1 h2 hp => ?_)
  obtain ⟨rfl, rfl⟩ := hp
  show V g A κ _ _ 0 0 h 15 [(1, .ref el), (0, .ref dq)] [.int (nI ((tl + 16) % 17)), .ref el]
  refine V.dup cx dJ3_pollLast_15 rfl ?_
  refine V.istore_n (lv' := [(2, .int (nI ((tl + 16) % 17))), (1, .ref el), (0, .ref dq)]) cx dJ3_pollLast_16 rfl (by decide) rfl ?_
  refine V.callS (As := [.ref el, .int (nI ((tl + 16) % 17))]) (rest := []) cx (m_dqAt l hl g A h el ((tl + 16) % 17) f e2 hlt) q1686 q1687 (na := 2) rfl (by decide +kernel) (Nat.le_of_ble_eq_true rfl) (by decide) (by decide) (by decide) rfl dJ3_pollLast_17 (fun _ _ _ hx => hx.elim) (fun v3 h4 hp => ?_)
  obtain ⟨rfl, rfl⟩ := hp
  show V g A κ _ _ 0 0 h 20 [(2, .int (nI ((tl + 16) % 17))), (1, .ref el), (0, .ref dq)] [va_rf (f ((tl + 16) % 17))]
  refine V.toq (o' := some x) k0 ?_
  show V g A κ _ _ 0 0 h 20 [(2, .int (nI ((tl + 16) % 17))), (1, .ref el), (0, .ref dq)] [.ref x]
  refine V.astore_n (lv' := [(3, .ref x), (2, .int (nI ((tl + 16) % 17))), (1, .ref el), (0, .ref dq)]) cx dJ3_pollLast_20 rfl (by decide) rfl ?_
  refine V.aload_n cx dJ3_pollLast_21 rfl 0 rfl ?_
  refine V.ifnull cx dJ3_pollLast_22 ?_
  refine V.aload_n cx dJ3_pollLast_25 rfl 2 rfl ?_
  refine V.aload_n cx dJ3_pollLast_26 rfl 3 rfl ?_
  refine V.iload_n cx dJ3_pollLast_27 rfl 1 rfl ?_
  refine V.dup_x1 cx dJ3_pollLast_28 rfl rfl ?_
  refine V.put (ty := tyJ3 2) cx kJ3 e1 2 (by decide) rfl (tyJ3_ok 2 (by decide)) rfl rfl (Nat.le_of_ble_eq_true rfl) q212 rfl dJ3_pollLast_29 ?_
  show V g A κ _ _ 0 0 (up h dq (ob 11 [.ref el, .int (nI hd), .int (nI ((tl + 16) % 17))])) 32 [(3, .ref x), (2, .int (nI ((tl + 16) % 17))), (1, .ref el), (0, .ref dq)] [.int (nI ((tl + 16) % 17)), .ref el]
  refine V.null cx dJ3_pollLast_32 ?_
  refine V.aastoreN (j := ((tl + 16) % 17)) cx ((up_n (Ne.symm nde)).trans e2) rfl rfl (by omega) (by decide) dJ3_pollLast_33 ?_
  show V g A κ _ _ 0 0 (up (up h dq (ob 11 [.ref el, .int (nI hd), .int (nI ((tl + 16) % 17))])) el (aQ g 5 17 (va_up f ((tl + 16) % 17) none))) 34 [(3, .ref x), (2, .int (nI ((tl + 16) % 17))), (1, .ref el), (0, .ref dq)] []
  refine V.aload_n cx dJ3_pollLast_34 rfl 0 rfl ?_
  exact V.areturn cx rfl (Or.inl ⟨_, rfl⟩) ⟨rfl, ⟨hd, (tl + 16) % 17, _, (up_n nde).trans up_s, up_s, e3, hlt, by omega, by omega, fun i hi => by
      unfold va_up
      by_cases z : (hd + i) % 17 = (tl + 16) % 17
      · rw [if_pos z, List.getElem?_eq_none (by omega)]
      · rw [if_neg z, e7 i hi]
        have z2 : i ≠ xs.length := fun z3 => z (by omega)
        rcases Nat.lt_or_ge i xs.length with z3 | z3
        · rw [List.getElem?_append_left z3]
        · rw [List.getElem?_eq_none z3, List.getElem?_eq_none (by rw [List.length_append, List.length_singleton]; omega)]⟩, (Off.rf.put List.mem_cons_self).put (List.mem_cons_of_mem _ List.mem_cons_self)⟩ (by decide) (by decide) dJ3_pollLast_35
abbrev cJ3_removeLast : ByteArray := prog_48_method_19_code
def yJ3_removeLast : MethodName := ⟨RJ3, "removeLast", "()Ljava/lang/Object;"⟩
def dkwJ3_removeLast_0 : List UInt8 := [42, 182, 0, 100, 76, 43, 199, 0, 11, 187, 0, 97, 89, 183, 0, 99, 191, 43, 176]
abbrev dktJ3_removeLast_0 : List UInt8 := dkwJ3_removeLast_0 ++ []
theorem dksJ3_removeLast_0 : cJ3_removeLast.data.toList.drop 0 = dktJ3_removeLast_0 := by decide +kernel
theorem dJ3_removeLast_0 : decode cJ3_removeLast 0 = .ok (.aload_n 0, 1) := dk_42 (dk_at dksJ3_removeLast_0 0 rfl rfl)
theorem dJ3_removeLast_1 : decode cJ3_removeLast 1 = .ok (.invokevirtual 100, 3) := dk_182 0 100 (dk_at dksJ3_removeLast_0 1 rfl rfl)
theorem dJ3_removeLast_4 : decode cJ3_removeLast 4 = .ok (.astore_n 1, 1) := dk_76 (dk_at dksJ3_removeLast_0 4 rfl rfl)
theorem dJ3_removeLast_5 : decode cJ3_removeLast 5 = .ok (.aload_n 1, 1) := dk_43 (dk_at dksJ3_removeLast_0 5 rfl rfl)
theorem dJ3_removeLast_6 : decode cJ3_removeLast 6 = .ok (.ifnonnull 11, 3) := dk_199 0 11 (dk_at dksJ3_removeLast_0 6 rfl rfl)
theorem dJ3_removeLast_9 : decode cJ3_removeLast 9 = .ok (.new 97, 3) := dk_187 0 97 (dk_at dksJ3_removeLast_0 9 rfl rfl)
theorem dJ3_removeLast_12 : decode cJ3_removeLast 12 = .ok (.dup, 1) := dk_89 (dk_at dksJ3_removeLast_0 12 rfl rfl)
theorem dJ3_removeLast_13 : decode cJ3_removeLast 13 = .ok (.invokespecial 99, 3) := dk_183 0 99 (dk_at dksJ3_removeLast_0 13 rfl rfl)
theorem dJ3_removeLast_16 : decode cJ3_removeLast 16 = .ok (.athrow, 1) := dk_191 (dk_at dksJ3_removeLast_0 16 rfl rfl)
theorem dJ3_removeLast_17 : decode cJ3_removeLast 17 = .ok (.aload_n 1, 1) := dk_43 (dk_at dksJ3_removeLast_0 17 rfl rfl)
theorem dJ3_removeLast_18 : decode cJ3_removeLast 18 = .ok (.areturn, 1) := dk_176 (dk_at dksJ3_removeLast_0 18 rfl rfl)
set_option maxHeartbeats 4000000 in
theorem m_dqRemL (l : Launch) (hl : l.stackTraces = false) (g : GE) (A : Nat → Prop) (h : AHT) (dq el x : Nat) (xs : List Nat) (hD : DQ g h dq el (xs ++ [x])) : U_ l g A yJ3_removeLast 3 0 0 [.ref dq] h (fun v h' => v = some (.ref x) ∧ DQ g h' dq el xs ∧ Off [dq, el] h h') noX := by
  refine U_.of (own := RJ3) (cc := cJ3_removeLast) (L := 2) (ret := (some (Jvm.ClassFile.FieldType.object "java/lang/Object"))) hl rfl (plainFor_of_name (by decide)) ⟨by decide, by decide⟩ q2413 q87 (by decide) (fun e => absurd e (by decide)) (Nat.le_of_ble_eq_true rfl) (fun κ cx => ?_)
  show V g A κ _ _ 0 0 h 0 [(0, .ref dq)] []
  refine V.aload_n cx dJ3_removeLast_0 rfl 0 rfl ?_
  refine V.callV (As := []) (rest := []) (C := "java/util/ArrayDeque") cx (m_dqPollL l hl g A h dq el x xs hD) rfl q2414 q2415 q2416 hD.rv (na := 0) rfl (by decide +kernel) (Nat.le_of_ble_eq_true rfl) (by decide) (by decide) (by decide) rfl dJ3_removeLast_1 (fun _ _ _ hx => hx.elim) (fun v1 h2 hp => ?_)
  obtain ⟨rfl, z1, z2⟩ := hp
  show V g A κ _ _ 0 0 h2 4 [(0, .ref dq)] [.ref x]
  refine V.astore_n (lv' := [(1, .ref x), (0, .ref dq)]) cx dJ3_removeLast_4 rfl (by decide) rfl ?_
  refine V.aload_n cx dJ3_removeLast_5 rfl 0 rfl ?_
  refine V.ifnonnull (tgt := 17) cx dJ3_removeLast_6 (by decide) ?_
  refine V.aload_n cx dJ3_removeLast_17 rfl 0 rfl ?_
  exact V.areturn cx rfl (Or.inl ⟨_, rfl⟩) ⟨rfl, z1, z2⟩ (by decide) (by decide) dJ3_removeLast_18
abbrev cJ3_circularClear : ByteArray := prog_48_method_54_code
def yJ3_circularClear : MethodName := ⟨RJ3, "circularClear", "([Ljava/lang/Object;II)V"⟩
def dkwJ3_circularClear_1 : List UInt8 := [167, 255, 244, 29, 28, 160, 0, 6, 167, 0, 10, 3, 60, 28, 62, 167, 255, 229, 177]
abbrev dktJ3_circularClear_1 : List UInt8 := dkwJ3_circularClear_1 ++ []
def dkwJ3_circularClear_0 : List UInt8 := [27, 28, 163, 0, 7, 28, 167, 0, 5, 42, 190, 62, 27, 29, 162, 0, 13, 42, 27, 1, 83, 132, 1, 1]
abbrev dktJ3_circularClear_0 : List UInt8 := dkwJ3_circularClear_0 ++ dktJ3_circularClear_1
theorem dksJ3_circularClear_0 : cJ3_circularClear.data.toList.drop 0 = dktJ3_circularClear_0 := by decide +kernel
theorem dksJ3_circularClear_1 : cJ3_circularClear.data.toList.drop 24 = dktJ3_circularClear_1 := dk_seg dksJ3_circularClear_0 24 rfl rfl
theorem dJ3_circularClear_0 : decode cJ3_circularClear 0 = .ok (.iload_n 1, 1) := dk_27 (dk_at dksJ3_circularClear_0 0 rfl rfl)
theorem dJ3_circularClear_1 : decode cJ3_circularClear 1 = .ok (.iload_n 2, 1) := dk_28 (dk_at dksJ3_circularClear_0 1 rfl rfl)
theorem dJ3_circularClear_2 : decode cJ3_circularClear 2 = .ok (.if_icmp .gt 7, 3) := dk_163 0 7 (dk_at dksJ3_circularClear_0 2 rfl rfl)
theorem dJ3_circularClear_5 : decode cJ3_circularClear 5 = .ok (.iload_n 2, 1) := dk_28 (dk_at dksJ3_circularClear_0 5 rfl rfl)
theorem dJ3_circularClear_6 : decode cJ3_circularClear 6 = .ok (.goto 5, 3) := dk_167 0 5 (dk_at dksJ3_circularClear_0 6 rfl rfl)
theorem dJ3_circularClear_9 : decode cJ3_circularClear 9 = .ok (.aload_n 0, 1) := dk_42 (dk_at dksJ3_circularClear_0 9 rfl rfl)
theorem dJ3_circularClear_10 : decode cJ3_circularClear 10 = .ok (.arraylength, 1) := dk_190 (dk_at dksJ3_circularClear_0 10 rfl rfl)
theorem dJ3_circularClear_11 : decode cJ3_circularClear 11 = .ok (.istore_n 3, 1) := dk_62 (dk_at dksJ3_circularClear_0 11 rfl rfl)
theorem dJ3_circularClear_12 : decode cJ3_circularClear 12 = .ok (.iload_n 1, 1) := dk_27 (dk_at dksJ3_circularClear_0 12 rfl rfl)
theorem dJ3_circularClear_13 : decode cJ3_circularClear 13 = .ok (.iload_n 3, 1) := dk_29 (dk_at dksJ3_circularClear_0 13 rfl rfl)
theorem dJ3_circularClear_14 : decode cJ3_circularClear 14 = .ok (.if_icmp .ge 13, 3) := dk_162 0 13 (dk_at dksJ3_circularClear_0 14 rfl rfl)
theorem dJ3_circularClear_17 : decode cJ3_circularClear 17 = .ok (.aload_n 0, 1) := dk_42 (dk_at dksJ3_circularClear_0 17 rfl rfl)
theorem dJ3_circularClear_18 : decode cJ3_circularClear 18 = .ok (.iload_n 1, 1) := dk_27 (dk_at dksJ3_circularClear_0 18 rfl rfl)
theorem dJ3_circularClear_19 : decode cJ3_circularClear 19 = .ok (.aconst_null, 1) := dk_1 (dk_at dksJ3_circularClear_0 19 rfl rfl)
theorem dJ3_circularClear_20 : decode cJ3_circularClear 20 = .ok (.aastore, 1) := dk_83 (dk_at dksJ3_circularClear_0 20 rfl rfl)
theorem dJ3_circularClear_21 : decode cJ3_circularClear 21 = .ok (.iinc 1 1, 3) := dk_132 1 1 (dk_at dksJ3_circularClear_0 21 rfl rfl)
theorem dJ3_circularClear_24 : decode cJ3_circularClear 24 = .ok (.goto (-12), 3) := dk_167 255 244 (dk_at dksJ3_circularClear_1 0 rfl rfl)
theorem dJ3_circularClear_27 : decode cJ3_circularClear 27 = .ok (.iload_n 3, 1) := dk_29 (dk_at dksJ3_circularClear_1 3 rfl rfl)
theorem dJ3_circularClear_28 : decode cJ3_circularClear 28 = .ok (.iload_n 2, 1) := dk_28 (dk_at dksJ3_circularClear_1 4 rfl rfl)
theorem dJ3_circularClear_29 : decode cJ3_circularClear 29 = .ok (.if_icmp .ne 6, 3) := dk_160 0 6 (dk_at dksJ3_circularClear_1 5 rfl rfl)
theorem dJ3_circularClear_32 : decode cJ3_circularClear 32 = .ok (.goto 10, 3) := dk_167 0 10 (dk_at dksJ3_circularClear_1 8 rfl rfl)
theorem dJ3_circularClear_35 : decode cJ3_circularClear 35 = .ok (.iconst 0, 1) := dk_3 (dk_at dksJ3_circularClear_1 11 rfl rfl)
theorem dJ3_circularClear_36 : decode cJ3_circularClear 36 = .ok (.istore_n 1, 1) := dk_60 (dk_at dksJ3_circularClear_1 12 rfl rfl)
theorem dJ3_circularClear_37 : decode cJ3_circularClear 37 = .ok (.iload_n 2, 1) := dk_28 (dk_at dksJ3_circularClear_1 13 rfl rfl)
theorem dJ3_circularClear_38 : decode cJ3_circularClear 38 = .ok (.istore_n 3, 1) := dk_62 (dk_at dksJ3_circularClear_1 14 rfl rfl)
theorem dJ3_circularClear_39 : decode cJ3_circularClear 39 = .ok (.goto (-27), 3) := dk_167 255 229 (dk_at dksJ3_circularClear_1 15 rfl rfl)
theorem dJ3_circularClear_42 : decode cJ3_circularClear 42 = .ok (.return_, 1) := dk_177 (dk_at dksJ3_circularClear_1 18 rfl rfl)
set_option maxHeartbeats 4000000 in
theorem m_dqCirc (l : Launch) (hl : l.stackTraces = false) (g : GE) (A : Nat → Prop) (h : AHT) (el i tl : Nat) (f : Nat → Option Nat) (he : h el = some (aQ g 5 17 f)) (hi : i < 17) (ht : tl < 17) (hf : ∀ j, j < 17 → f j ≠ none → (i ≤ tl ∧ i ≤ j ∧ j < tl) ∨ (tl < i ∧ (i ≤ j ∨ j < tl))) : U_ l g A yJ3_circularClear 1 0 0 [.ref el, .int (nI i), .int (nI tl)] h (fun v h' => v = none ∧ ∃ f', up h el (aQ g 5 17 f') = h' ∧ ∀ j, j < 17 → f' j = none) noX := by
  refine U_.of (own := RJ3) (cc := cJ3_circularClear) (L := 4) (ret := (none)) hl rfl (plainFor_of_name (by decide)) ⟨by decide, by decide⟩ q2434 q87 (by decide) (fun e => absurd e (by decide)) (Nat.le_of_ble_eq_true rfl) (fun κ cx => ?_)
  show V g A κ _ _ 0 0 h 0 [(0, .ref el), (1, .int (nI i)), (2, .int (nI tl))] []
  refine V.hto (h' := up h el (aQ g 5 17 f)) (up_id he).symm ?_
  show V g A κ _ _ 0 0 (up h el (aQ g 5 17 f)) 0 [(0, .ref el), (1, .int (nI i)), (2, .int (nI tl))] []
  refine V.join (α := (Nat) × (Nat) × (Nat → Option Nat)) (pc := 12) (fun z9_ => (z9_.1) ≤ 17 ∧ ((z9_.2.1) = tl ∨ (z9_.2.1) = 17) ∧ ∀ j, j < 17 → (z9_.2.2) j ≠ none → ((z9_.1) ≤ j ∧ j < (z9_.2.1)) ∨ ((z9_.2.1) = 17 ∧ j < tl)) (fun z9_ => 0) (fun z9_ => 0) (fun z9_ => (up h el (aQ g 5 17 (z9_.2.2)))) (fun z9_ => [(0, .ref el), (1, .int (nI (z9_.1))), (2, .int (nI tl)), (3, .int (nI (z9_.2.1)))]) (fun z9_ => []) (fun z9_ hP_ => ?_) (fun J_ => ?_)
  · obtain ⟨i_, t_, f_⟩ := z9_
    dsimp only at hP_
    skip
    refine V.loop (α := (Nat) × (Nat) × (Nat → Option Nat)) (fun z9_ => (if (z9_.2.1) = tl then 0 else 100) + (18 - (z9_.1))) (fun z9_ => (z9_.1) ≤ 17 ∧ ((z9_.2.1) = tl ∨ (z9_.2.1) = 17) ∧ ∀ j, j < 17 → (z9_.2.2) j ≠ none → ((z9_.1) ≤ j ∧ j < (z9_.2.1)) ∨ ((z9_.2.1) = 17 ∧ j < tl)) (fun z9_ => 0) (fun z9_ => 0) (fun z9_ => (up h el (aQ g 5 17 (z9_.2.2)))) (fun z9_ => [(0, .ref el), (1, .int (nI (z9_.1))), (2, .int (nI tl)), (3, .int (nI (z9_.2.1)))]) (fun z9_ => []) (fun z9_ hP_ ih_ => ?_) (i_, t_, f_) hP_
    obtain ⟨a_, b_, c_⟩ := z9_
    dsimp only at hP_
    obtain ⟨hA, hB, hC⟩ := hP_
    show V g A κ _ _ 0 0 (up h el (aQ g 5 17 c_)) 12 [(0, .ref el), (1, .int (nI a_)), (2, .int (nI tl)), (3, .int (nI b_))] []
    refine V.iload_n cx dJ3_circularClear_12 rfl 1 rfl ?_
    refine V.iload_n cx dJ3_circularClear_13 rfl 3 rfl ?_
    refine V.nicmp_ge (a := a_) (b := b_) (tgt := 27) cx (by omega) (by omega) dJ3_circularClear_14 (by decide) (fun cg => ?_) (fun cg => ?_)
    · refine V.iload_n cx dJ3_circularClear_27 rfl 3 rfl ?_
      refine V.iload_n cx dJ3_circularClear_28 rfl 2 rfl ?_
      refine V.nicmp_ne (a := b_) (b := tl) (tgt := 35) cx (by omega) (by omega) dJ3_circularClear_29 (by decide) (fun ce => ?_) (fun ce => ?_)
      · refine V.iconst (v := (nI 0)) cx dJ3_circularClear_35 (by decide) ?_
        refine V.istore_n (lv' := [(1, .int (nI 0)), (0, .ref el), (2, .int (nI tl)), (3, .int (nI b_))]) cx dJ3_circularClear_36 rfl (by decide) rfl ?_
        refine V.iload_n cx dJ3_circularClear_37 rfl 2 rfl ?_
        refine V.istore_n (lv' := [(3, .int (nI tl)), (1, .int (nI 0)), (0, .ref el), (2, .int (nI tl))]) cx dJ3_circularClear_38 rfl (by decide) rfl ?_
        refine V.goto (tgt := 12) cx dJ3_circularClear_39 (by decide) ?_
        refine V.sub [2, 1, 3, 0] rfl ?_
        exact ih_ (0, tl, c_) (by dsimp only; exact (by rw [if_pos rfl, if_neg ce]; omega)) (by dsimp only; exact ⟨by omega, Or.inl rfl, fun j hj hn => by have := hC j hj hn; omega⟩)
      · refine V.goto (tgt := 42) cx dJ3_circularClear_32 (by decide) ?_
        exact V.vreturn cx rfl ⟨rfl, c_, rfl, fun j hj => Classical.byContradiction (fun hn => by have := hC j hj hn; omega)⟩ (by decide) (by decide) dJ3_circularClear_42
    · refine V.aload_n cx dJ3_circularClear_17 rfl 0 rfl ?_
      refine V.iload_n cx dJ3_circularClear_18 rfl 1 rfl ?_
      refine V.null cx dJ3_circularClear_19 ?_
      refine V.aastoreN (j := a_) cx up_s rfl rfl (by omega) (by decide) dJ3_circularClear_20 ?_
      show V g A κ _ _ 0 0 (up (up h el (aQ g 5 17 c_)) el (aQ g 5 17 (va_up c_ a_ none))) 21 [(0, .ref el), (1, .int (nI a_)), (2, .int (nI tl)), (3, .int (nI b_))] []
      refine V.hto (h' := up h el (aQ g 5 17 (va_up c_ a_ none))) up_up ?_
      show V g A κ _ _ 0 0 (up h el (aQ g 5 17 (va_up c_ a_ none))) 21 [(0, .ref el), (1, .int (nI a_)), (2, .int (nI tl)), (3, .int (nI b_))] []
      refine V.iinc (v := (nI (a_ + 1))) (lv' := [(1, .int (nI (a_ + 1))), (0, .ref el), (2, .int (nI tl)), (3, .int (nI b_))]) cx dJ3_circularClear_21 1 rfl (nI_1 a_) (by decide) rfl ?_
      refine V.goto (tgt := 12) cx dJ3_circularClear_24 (by decide) ?_
      refine V.sub [1, 0, 2, 3] rfl ?_
      exact ih_ ((a_ + 1), b_, (va_up c_ a_ none)) (by dsimp only; exact (by split <;> omega)) (by dsimp only; exact ⟨by omega, hB, fun j hj hn => by unfold va_up at hn; by_cases z : j = a_; exact absurd (if_pos z) hn; rw [if_neg z] at hn; have := hC j hj hn; omega⟩)
  · refine V.iload_n cx dJ3_circularClear_0 rfl 1 rfl ?_
    refine V.iload_n cx dJ3_circularClear_1 rfl 2 rfl ?_
    refine V.nicmp_gt (a := i) (b := tl) (tgt := 9) cx (by omega) (by omega) dJ3_circularClear_2 (by decide) (fun c0 => ?_) (fun c0 => ?_)
    · refine V.aload_n cx dJ3_circularClear_9 rfl 0 rfl ?_
      refine V.alen (t0 := 5) cx up_s rfl dJ3_circularClear_10 ?_
      show V g A κ _ _ 0 0 (up h el (aQ g 5 17 f)) 11 [(0, .ref el), (1, .int (nI i)), (2, .int (nI tl))] [.int (nI 17)]
      refine V.istore_n (lv' := [(3, .int (nI 17)), (0, .ref el), (1, .int (nI i)), (2, .int (nI tl))]) cx dJ3_circularClear_11 rfl (by decide) rfl ?_
      refine V.sub [1, 2, 3, 0] rfl ?_
      exact J_ (i, 17, f) (by dsimp only; exact ⟨by omega, Or.inr rfl, fun j hj hn => by have := hf j hj hn; omega⟩)
    · refine V.iload_n cx dJ3_circularClear_5 rfl 2 rfl ?_
      refine V.goto (tgt := 11) cx dJ3_circularClear_6 (by decide) ?_
      refine V.istore_n (lv' := [(3, .int (nI tl)), (0, .ref el), (1, .int (nI i)), (2, .int (nI tl))]) cx dJ3_circularClear_11 rfl (by decide) rfl ?_
      refine V.sub [1, 2, 3, 0] rfl ?_
      exact J_ (i, tl, f) (by dsimp only; exact ⟨by omega, Or.inl rfl, fun j hj hn => by have := hf j hj hn; omega⟩)
abbrev cJ3_clear : ByteArray := prog_48_method_53_code
def yJ3_clear : MethodName := ⟨RJ3, "clear", "()V"⟩
def dkwJ3_clear_1 : List UInt8 := [181, 0, 24, 177]
abbrev dktJ3_clear_1 : List UInt8 := dkwJ3_clear_1 ++ []
def dkwJ3_clear_0 : List UInt8 := [42, 180, 0, 3, 42, 180, 0, 24, 42, 180, 0, 20, 184, 0, 181, 42, 42, 3, 90, 181, 0, 20]
abbrev dktJ3_clear_0 : List UInt8 := dkwJ3_clear_0 ++ dktJ3_clear_1
theorem dksJ3_clear_0 : cJ3_clear.data.toList.drop 0 = dktJ3_clear_0 := by decide +kernel
theorem dksJ3_clear_1 : cJ3_clear.data.toList.drop 22 = dktJ3_clear_1 := dk_seg dksJ3_clear_0 22 rfl rfl
theorem dJ3_clear_0 : decode cJ3_clear 0 = .ok (.aload_n 0, 1) := dk_42 (dk_at dksJ3_clear_0 0 rfl rfl)
theorem dJ3_clear_1 : decode cJ3_clear 1 = .ok (.getfield 3, 3) := dk_180 0 3 (dk_at dksJ3_clear_0 1 rfl rfl)
theorem dJ3_clear_4 : decode cJ3_clear 4 = .ok (.aload_n 0, 1) := dk_42 (dk_at dksJ3_clear_0 4 rfl rfl)
theorem dJ3_clear_5 : decode cJ3_clear 5 = .ok (.getfield 24, 3) := dk_180 0 24 (dk_at dksJ3_clear_0 5 rfl rfl)
theorem dJ3_clear_8 : decode cJ3_clear 8 = .ok (.aload_n 0, 1) := dk_42 (dk_at dksJ3_clear_0 8 rfl rfl)
theorem dJ3_clear_9 : decode cJ3_clear 9 = .ok (.getfield 20, 3) := dk_180 0 20 (dk_at dksJ3_clear_0 9 rfl rfl)
theorem dJ3_clear_12 : decode cJ3_clear 12 = .ok (.invokestatic 181, 3) := dk_184 0 181 (dk_at dksJ3_clear_0 12 rfl rfl)
theorem dJ3_clear_15 : decode cJ3_clear 15 = .ok (.aload_n 0, 1) := dk_42 (dk_at dksJ3_clear_0 15 rfl rfl)
theorem dJ3_clear_16 : decode cJ3_clear 16 = .ok (.aload_n 0, 1) := dk_42 (dk_at dksJ3_clear_0 16 rfl rfl)
theorem dJ3_clear_17 : decode cJ3_clear 17 = .ok (.iconst 0, 1) := dk_3 (dk_at dksJ3_clear_0 17 rfl rfl)
theorem dJ3_clear_18 : decode cJ3_clear 18 = .ok (.dup_x1, 1) := dk_90 (dk_at dksJ3_clear_0 18 rfl rfl)
theorem dJ3_clear_19 : decode cJ3_clear 19 = .ok (.putfield 20, 3) := dk_181 0 20 (dk_at dksJ3_clear_0 19 rfl rfl)
theorem dJ3_clear_22 : decode cJ3_clear 22 = .ok (.putfield 24, 3) := dk_181 0 24 (dk_at dksJ3_clear_1 0 rfl rfl)
theorem dJ3_clear_25 : decode cJ3_clear 25 = .ok (.return_, 1) := dk_177 (dk_at dksJ3_clear_1 3 rfl rfl)
set_option maxHeartbeats 4000000 in
theorem m_dqClear (l : Launch) (hl : l.stackTraces = false) (g : GE) (A : Nat → Prop) (h : AHT) (dq el : Nat) (xs : List Nat) (hD : DQ g h dq el xs) : U_ l g A yJ3_clear 2 0 0 [.ref dq] h (fun v h' => v = none ∧ DQ g h' dq el [] ∧ Off [dq, el] h h') noX := by
  refine U_.of (own := RJ3) (cc := cJ3_clear) (L := 1) (ret := (none)) hl rfl (plainFor_of_name (by decide)) ⟨by decide, by decide⟩ q2431 q87 (by decide) (fun e => absurd e (by decide)) (Nat.le_of_ble_eq_true rfl) (fun κ cx => ?_)
  show V g A κ _ _ 0 0 h 0 [(0, .ref dq)] []
  obtain ⟨hd, tl, f, e1, e2, e3, e4, e5, e6, e7⟩ := hD
  have nde : dq ≠ el := fun z => by rw [z, e2] at e1; cases e1
  refine V.aload_n cx dJ3_clear_0 rfl 0 rfl ?_
  refine V.get cx kJ3 e1 0 (by decide) q208 rfl rfl dJ3_clear_1 ?_
  refine V.aload_n cx dJ3_clear_4 rfl 0 rfl ?_
  refine V.get cx kJ3 e1 1 (by decide) q211 rfl rfl dJ3_clear_5 ?_
  refine V.aload_n cx dJ3_clear_8 rfl 0 rfl ?_
  refine V.get cx kJ3 e1 2 (by decide) q212 rfl rfl dJ3_clear_9 ?_
  have hq9 : ∀ j, j < 17 → f j ≠ none → (hd ≤ tl ∧ hd ≤ j ∧ j < tl) ∨ (tl < hd ∧ (hd ≤ j ∨ j < tl)) := fun j hj hn => by
    have h1 : xs[(j + 17 - hd) % 17]? ≠ none := by rw [← e7 _ (Nat.mod_lt _ (by decide)), show (hd + (j + 17 - hd) % 17) % 17 = j by omega]; exact hn
    have h2 : (j + 17 - hd) % 17 < xs.length := Nat.not_le.mp (fun z => h1 (List.getElem?_eq_none z))
    omega
  refine V.callS (As := [.ref el, .int (nI hd), .int (nI tl)]) (rest := []) cx (m_dqCirc l hl g A h el hd tl f e2 e3 e4 hq9) q2432 q2433 (na := 3) rfl (by decide +kernel) (Nat.le_of_ble_eq_true rfl) (by decide) (by decide) (by decide) rfl dJ3_clear_12 (fun _ _ _ hx => hx.elim) (fun v1 h2 hp => ?_)
  obtain ⟨rfl, f', rfl, hz⟩ := hp
  show V g A κ _ _ 0 0 (up h el (aQ g 5 17 f')) 15 [(0, .ref dq)] []
  refine V.aload_n cx dJ3_clear_15 rfl 0 rfl ?_
  refine V.aload_n cx dJ3_clear_16 rfl 0 rfl ?_
  refine V.iconst (v := (nI 0)) cx dJ3_clear_17 (by decide) ?_
  refine V.dup_x1 cx dJ3_clear_18 rfl rfl ?_
  refine V.put (ty := tyJ3 2) cx kJ3 ((up_n nde).trans e1) 2 (by decide) rfl (tyJ3_ok 2 (by decide)) rfl rfl (Nat.le_of_ble_eq_true rfl) q212 rfl dJ3_clear_19 ?_
  show V g A κ _ _ 0 0 (up (up h el (aQ g 5 17 f')) dq (ob 11 [.ref el, .int (nI hd), .int (nI 0)])) 22 [(0, .ref dq)] [.int (nI 0), .ref dq]
  refine V.put (ty := tyJ3 1) cx kJ3 up_s 1 (by decide) rfl (tyJ3_ok 1 (by decide)) rfl rfl (Nat.le_of_ble_eq_true rfl) q211 rfl dJ3_clear_22 ?_
  show V g A κ _ _ 0 0 (up (up (up h el (aQ g 5 17 f')) dq (ob 11 [.ref el, .int (nI hd), .int (nI 0)])) dq (ob 11 [.ref el, .int (nI 0), .int (nI 0)])) 25 [(0, .ref dq)] []
  exact V.vreturn cx rfl ⟨rfl, ⟨0, 0, f', by rw [up_up]; exact up_s, (up_n (Ne.symm nde)).trans ((up_n (Ne.symm nde)).trans up_s), by decide, by decide, rfl, by simp, fun i hi => by rw [Nat.zero_add, Nat.mod_eq_of_lt hi, hz i hi]; rfl⟩, ((Off.rf.put (List.mem_cons_of_mem _ List.mem_cons_self)).put List.mem_cons_self).put List.mem_cons_self⟩ (by decide) (by decide) dJ3_clear_25
