/-! JDK: StringBuilder (1) -/
set_option maxRecDepth 100000
/-- a StringBuilder's capacity: it holds at most 34 characters here -/
def capS (n : Nat) : Nat := if n ≤ 16 then 16 else 34
/-- the bytes of the characters cs in the coder u (false: Latin1) -/
def sbF (u : Bool) (cs : List Nat) (f : Nat → Int32) : Prop := match u with
  | false => (∀ c, c ∈ cs → c < 256) ∧ ∀ (i c : Nat), cs[i]? = some c → f i = vp_nar .byte (nI c)
  | true => ∀ (i c : Nat), cs[i]? = some c → f (2 * i) = vp_nar .byte (nI c) ∧ f (2 * i + 1) = vp_nar .byte (nI (c / 256))
/-- the StringBuilder sb with the array va of the capacity cap holds the characters cs -/
def SBc (g : GE) (h : AHT) (sb va : Nat) (u : Bool) (cs : List Nat) (cap : Nat) : Prop := ∃ (f : Nat → Int32), h sb = some (ob 12 [.ref va, .int (b2 u), .int 0, .int (nI cs.length)]) ∧ h va = some (aI g 2 (if u then 2 * cap else cap) f) ∧ cs.length ≤ cap ∧ (cap = 16 ∨ cap = 34) ∧ (∀ c, c ∈ cs → c < 65536) ∧ sbF u cs f ∧ ∀ i, fits .byte (.int (f i)) = true
theorem SBc.rv {g : GE} {h : AHT} {sb va : Nat} {u : Bool} {cs : List Nat} {cap : Nat} (a : SBc g h sb va u cs cap) : Rv g h sb "java/lang/StringBuilder" := by
  obtain ⟨f, e1, -⟩ := a
  exact Rv.of kJ5 e1
theorem SBc.off {g : GE} {h h' : AHT} {sb va : Nat} {u : Bool} {cs : List Nat} {cap : Nat} {S : List Nat} (a : SBc g h sb va u cs cap) (o : Off S h h') (h1 : sb ∉ S) (h2 : va ∉ S) : SBc g h' sb va u cs cap := by
  obtain ⟨f, e1, e2, e3⟩ := a
  exact ⟨f, o _ _ h1 e1, o _ _ h2 e2, e3⟩
theorem fits_nar (x : Int32) : fits .byte (.int (vp_nar .byte x)) = true := by
  rw [vp_nar_byte]
  simp [fits, narrow]
theorem b2_not (u : Bool) : b2 (!u) = if u then 0 else 1 := by cases u <;> rfl

abbrev cJ19_canEncode : ByteArray := prog_37_method_3_code
def yJ19_canEncode : MethodName := ⟨RJ19, "canEncode", "(C)Z"⟩
def dkwJ19_canEncode_0 : List UInt8 := [26, 17, 0, 255, 163, 0, 7, 4, 167, 0, 4, 3, 172]
abbrev dktJ19_canEncode_0 : List UInt8 := dkwJ19_canEncode_0 ++ []
theorem dksJ19_canEncode_0 : cJ19_canEncode.data.toList.drop 0 = dktJ19_canEncode_0 := by decide +kernel
theorem dJ19_canEncode_0 : decode cJ19_canEncode 0 = .ok (.iload_n 0, 1) := dk_26 (dk_at dksJ19_canEncode_0 0 rfl rfl)
theorem dJ19_canEncode_1 : decode cJ19_canEncode 1 = .ok (.sipush 255, 3) := dk_17 0 255 (dk_at dksJ19_canEncode_0 1 rfl rfl)
theorem dJ19_canEncode_4 : decode cJ19_canEncode 4 = .ok (.if_icmp .gt 7, 3) := dk_163 0 7 (dk_at dksJ19_canEncode_0 4 rfl rfl)
theorem dJ19_canEncode_7 : decode cJ19_canEncode 7 = .ok (.iconst 1, 1) := dk_4 (dk_at dksJ19_canEncode_0 7 rfl rfl)
theorem dJ19_canEncode_8 : decode cJ19_canEncode 8 = .ok (.goto 4, 3) := dk_167 0 4 (dk_at dksJ19_canEncode_0 8 rfl rfl)
theorem dJ19_canEncode_11 : decode cJ19_canEncode 11 = .ok (.iconst 0, 1) := dk_3 (dk_at dksJ19_canEncode_0 11 rfl rfl)
theorem dJ19_canEncode_12 : decode cJ19_canEncode 12 = .ok (.ireturn, 1) := dk_172 (dk_at dksJ19_canEncode_0 12 rfl rfl)
set_option maxHeartbeats 4000000 in
theorem m_canEncode (l : Launch) (hl : l.stackTraces = false) (g : GE) (A : Nat → Prop) (h : AHT) (c : Nat) (hc : c < 65536) : U_ l g A yJ19_canEncode 1 0 0 [.int (nI c)] h (fun v h' => v = some (.int (b2 (decide (c < 256)))) ∧ h = h') noX := by
  refine U_.of (own := RJ19) (cc := cJ19_canEncode) (L := 1) (ret := (some Jvm.ClassFile.FieldType.boolean)) hl rfl (plainFor_of_name (by decide)) ⟨by decide, by decide⟩ q2170 q107 (by decide) (fun e => absurd e (by decide)) (Nat.le_of_ble_eq_true rfl) (fun κ cx => ?_)
  show V g A κ _ _ 0 0 h 0 [(0, .int (nI c))] []
  refine V.iload_n cx dJ19_canEncode_0 rfl 0 rfl ?_
  refine V.sipush (v := (nI 255)) cx dJ19_canEncode_1 (by decide) ?_
  refine V.nicmp_gt (a := c) (b := 255) (tgt := 11) cx (by omega) (by decide) dJ19_canEncode_4 (by decide) (fun c9 => ?_) (fun c9 => ?_)
  · refine V.iconst (v := (nI 0)) cx dJ19_canEncode_11 (by decide) ?_
    refine V.toi (y := b2 (decide (c < 256))) (by rw [decide_eq_false (by omega)]; decide) ?_
    exact V.ireturn (x := (b2 (decide (c < 256)))) cx rfl b2_narrow ⟨rfl, rfl⟩ (by decide) (by decide) dJ19_canEncode_12
  · refine V.iconst (v := (nI 1)) cx dJ19_canEncode_7 (by decide) ?_
    refine V.goto (tgt := 12) cx dJ19_canEncode_8 (by decide) ?_
    refine V.toi (y := b2 (decide (c < 256))) (by rw [decide_eq_true (by omega)]; decide) ?_
    exact V.ireturn (x := (b2 (decide (c < 256)))) cx rfl b2_narrow ⟨rfl, rfl⟩ (by decide) (by decide) dJ19_canEncode_12
abbrev cJ4_isLatin1 : ByteArray := prog_15_method_68_code
def yJ4_isLatin1 : MethodName := ⟨RJ4, "isLatin1", "()Z"⟩
def dkwJ4_isLatin1_0 : List UInt8 := [178, 0, 18, 153, 0, 14, 42, 180, 0, 22, 154, 0, 7, 4, 167, 0, 4, 3, 172]
abbrev dktJ4_isLatin1_0 : List UInt8 := dkwJ4_isLatin1_0 ++ []
theorem dksJ4_isLatin1_0 : cJ4_isLatin1.data.toList.drop 0 = dktJ4_isLatin1_0 := by decide +kernel
theorem dJ4_isLatin1_0 : decode cJ4_isLatin1 0 = .ok (.getstatic 18, 3) := dk_178 0 18 (dk_at dksJ4_isLatin1_0 0 rfl rfl)
theorem dJ4_isLatin1_3 : decode cJ4_isLatin1 3 = .ok (.ifCond .eq 14, 3) := dk_153 0 14 (dk_at dksJ4_isLatin1_0 3 rfl rfl)
theorem dJ4_isLatin1_6 : decode cJ4_isLatin1 6 = .ok (.aload_n 0, 1) := dk_42 (dk_at dksJ4_isLatin1_0 6 rfl rfl)
theorem dJ4_isLatin1_7 : decode cJ4_isLatin1 7 = .ok (.getfield 22, 3) := dk_180 0 22 (dk_at dksJ4_isLatin1_0 7 rfl rfl)
theorem dJ4_isLatin1_10 : decode cJ4_isLatin1 10 = .ok (.ifCond .ne 7, 3) := dk_154 0 7 (dk_at dksJ4_isLatin1_0 10 rfl rfl)
theorem dJ4_isLatin1_13 : decode cJ4_isLatin1 13 = .ok (.iconst 1, 1) := dk_4 (dk_at dksJ4_isLatin1_0 13 rfl rfl)
theorem dJ4_isLatin1_14 : decode cJ4_isLatin1 14 = .ok (.goto 4, 3) := dk_167 0 4 (dk_at dksJ4_isLatin1_0 14 rfl rfl)
theorem dJ4_isLatin1_17 : decode cJ4_isLatin1 17 = .ok (.iconst 0, 1) := dk_3 (dk_at dksJ4_isLatin1_0 17 rfl rfl)
theorem dJ4_isLatin1_18 : decode cJ4_isLatin1 18 = .ok (.ireturn, 1) := dk_172 (dk_at dksJ4_isLatin1_0 18 rfl rfl)
set_option maxHeartbeats 4000000 in
theorem m_isLatin1 (l : Launch) (hl : l.stackTraces = false) (g : GE) (A : Nat → Prop) (h : AHT) (sb va : Nat) (u : Bool) (cs : List Nat) (cap : Nat) (hS : SBc g h sb va u cs cap) : U_ l g A yJ4_isLatin1 1 0 0 [.ref sb] h (fun v h' => v = some (.int (b2 (!u))) ∧ h = h') noX := by
  refine U_.of (own := RJ4) (cc := cJ4_isLatin1) (L := 1) (ret := (some Jvm.ClassFile.FieldType.boolean)) hl rfl (plainFor_of_name (by decide)) ⟨by decide, by decide⟩ q904 q88 (by decide) (fun e => absurd e (by decide)) (Nat.le_of_ble_eq_true rfl) (fun κ cx => ?_)
  show V g A κ _ _ 0 0 h 0 [(0, .ref sb)] []
  obtain ⟨f, e1, e2, e3, e4, e5, e6, e7⟩ := hS
  refine V.gets (C := "java/lang/String") (v := .int 1) cx (by simp [zs]) q229 rfl dJ4_isLatin1_0 ?_
  refine V.if_eq (tgt := 17) cx dJ4_isLatin1_3 (by decide) (fun c9 => ?_) (fun c9 => ?_)
  · exact absurd c9 (by decide)
  · refine V.aload_n cx dJ4_isLatin1_6 rfl 0 rfl ?_
    refine V.get cx kJ5 e1 1 (by decide) q239 rfl rfl dJ4_isLatin1_7 ?_
    refine V.bif_ne (tgt := 17) cx dJ4_isLatin1_10 (by decide) (fun c8 => ?_) (fun c8 => ?_)
    · have hu : u = true := c8
      refine V.iconst (v := (nI 0)) cx dJ4_isLatin1_17 (by decide) ?_
      refine V.toi (y := b2 (!u)) (by rw [hu]; decide) ?_
      exact V.ireturn (x := (b2 (!u))) cx rfl b2_narrow ⟨rfl, rfl⟩ (by decide) (by decide) dJ4_isLatin1_18
    · have hu : u = false := c8
      refine V.iconst (v := (nI 1)) cx dJ4_isLatin1_13 (by decide) ?_
      refine V.goto (tgt := 18) cx dJ4_isLatin1_14 (by decide) ?_
      refine V.toi (y := b2 (!u)) (by rw [hu]; decide) ?_
      exact V.ireturn (x := (b2 (!u))) cx rfl b2_narrow ⟨rfl, rfl⟩ (by decide) (by decide) dJ4_isLatin1_18
abbrev cJ4_length : ByteArray := prog_15_method_6_code
def yJ4_length : MethodName := ⟨RJ4, "length", "()I"⟩
theorem dJ4_length_0 : decode cJ4_length 0 = .ok (.aload_n 0, 1) := by decide +kernel
theorem dJ4_length_1 : decode cJ4_length 1 = .ok (.getfield 79, 3) := by decide +kernel
theorem dJ4_length_4 : decode cJ4_length 4 = .ok (.ireturn, 1) := by decide +kernel
set_option maxHeartbeats 4000000 in
theorem m_asbLen (l : Launch) (hl : l.stackTraces = false) (g : GE) (A : Nat → Prop) (h : AHT) (sb va : Nat) (u : Bool) (cs : List Nat) (cap : Nat) (hS : SBc g h sb va u cs cap) : U_ l g A yJ4_length 1 0 0 [.ref sb] h (fun v h' => v = some (.int (nI cs.length)) ∧ h = h') noX := by
  refine U_.of (own := RJ4) (cc := cJ4_length) (L := 1) (ret := (some Jvm.ClassFile.FieldType.int)) hl rfl (plainFor_of_name (by decide)) ⟨by decide, by decide⟩ q1290 q88 (by decide) (fun e => absurd e (by decide)) (Nat.le_of_ble_eq_true rfl) (fun κ cx => ?_)
  show V g A κ _ _ 0 0 h 0 [(0, .ref sb)] []
  obtain ⟨f, e1, e2, e3, e4, e5, e6, e7⟩ := hS
  refine V.aload_n cx dJ4_length_0 rfl 0 rfl ?_
  refine V.get cx kJ5 e1 3 (by decide) q241 rfl rfl dJ4_length_1 ?_
  exact V.ireturn (x := (nI cs.length)) cx rfl rfl ⟨rfl, rfl⟩ (by decide) (by decide) dJ4_length_4
abbrev cJ5_length : ByteArray := prog_36_method_93_code
def yJ5_length : MethodName := ⟨RJ5, "length", "()I"⟩
theorem dJ5_length_0 : decode cJ5_length 0 = .ok (.aload_n 0, 1) := by decide +kernel
theorem dJ5_length_1 : decode cJ5_length 1 = .ok (.invokespecial 343, 3) := by decide +kernel
theorem dJ5_length_4 : decode cJ5_length 4 = .ok (.ireturn, 1) := by decide +kernel
set_option maxHeartbeats 4000000 in
theorem m_sbLen (l : Launch) (hl : l.stackTraces = false) (g : GE) (A : Nat → Prop) (h : AHT) (sb va : Nat) (u : Bool) (cs : List Nat) (cap : Nat) (hS : SBc g h sb va u cs cap) : U_ l g A yJ5_length 2 0 0 [.ref sb] h (fun v h' => v = some (.int (nI cs.length)) ∧ h = h') noX := by
  refine U_.of (own := RJ5) (cc := cJ5_length) (L := 1) (ret := (some Jvm.ClassFile.FieldType.int)) hl rfl (plainFor_of_name (by decide)) ⟨by decide, by decide⟩ q1288 q89 (by decide) (fun e => absurd e (by decide)) (Nat.le_of_ble_eq_true rfl) (fun κ cx => ?_)
  show V g A κ _ _ 0 0 h 0 [(0, .ref sb)] []
  refine V.aload_n cx dJ5_length_0 rfl 0 rfl ?_
  refine V.callSU (As := []) (rest := []) (C := "java/lang/StringBuilder") cx (m_asbLen l hl g A h sb va u cs cap hS) kJ5 q1289 q1285 q250 q1284 (by decide) hS.rv (na := 0) rfl (by decide +kernel) (Nat.le_of_ble_eq_true rfl) (by decide) (by decide) (by decide) rfl dJ5_length_1 (fun _ _ _ hx => hx.elim) (fun v1 h2 hp => ?_)
  obtain ⟨rfl, rfl⟩ := hp
  show V g A κ _ _ 0 0 h 4 [(0, .ref sb)] [.int (nI cs.length)]
  exact V.ireturn (x := (nI cs.length)) cx rfl rfl ⟨rfl, rfl⟩ (by decide) (by decide) dJ5_length_4
set_option maxHeartbeats 4000000 in
theorem m_newLength2 (l : Launch) (hl : l.stackTraces = false) (g : GE) (A : Nat → Prop) (h : AHT) (a b c r : Nat) (hn : a = 16 ∧ b = 1 ∧ c = 18 ∧ r = 34 ∨ a = 32 ∧ b = 2 ∧ c = 36 ∧ r = 68) : U_ l g A yJ21_newLength 2 0 0 [.int (nI a), .int (nI b), .int (nI c)] h (fun v h' => v = some (.int (nI r)) ∧ h = h') noX := by
  refine U_.of (own := RJ21) (cc := cJ21_newLength) (L := 4) (ret := (some Jvm.ClassFile.FieldType.int)) hl rfl (plainFor_of_name (by decide)) ⟨by decide, by decide⟩ q580 q109 (by decide) (fun e => absurd e (by decide)) (Nat.le_of_ble_eq_true rfl) (fun κ cx => ?_)
  show V g A κ _ _ 0 0 h 0 [(0, .int (nI a)), (1, .int (nI b)), (2, .int (nI c))] []
  rcases hn with ⟨rfl, rfl, rfl, rfl⟩ | ⟨rfl, rfl, rfl, rfl⟩
  · show V g A κ _ _ 0 0 h 0 [(0, .int (nI 16)), (1, .int (nI 1)), (2, .int (nI 18))] []
    refine V.iload_n cx dJ21_newLength_0 rfl 0 rfl ?_
    refine V.iload_n cx dJ21_newLength_1 rfl 1 rfl ?_
    refine V.iload_n cx dJ21_newLength_2 rfl 2 rfl ?_
    refine V.callS (As := [.int (nI 1), .int (nI 18)]) (rest := [.int (nI 16)]) cx (m_max l hl g A h _ _) q581 q582 (na := 2) rfl (by decide +kernel) (Nat.le_of_ble_eq_true rfl) (by decide) (by decide) (by decide) rfl dJ21_newLength_3 (fun _ _ _ hx => hx.elim) (fun v1 h2 hp => ?_)
    obtain ⟨rfl, rfl⟩ := hp
    show V g A κ _ _ 0 0 h 6 [(0, .int (nI 16)), (1, .int (nI 1)), (2, .int (nI 18))] [.int (if nI 1 < nI 18 then nI 18 else nI 1), .int (nI 16)]
    refine V.iadd cx dJ21_newLength_6 ?_
    refine V.toi (y := nI 34) (by decide) ?_
    refine V.istore_n (lv' := [(3, .int (nI 34)), (0, .int (nI 16)), (1, .int (nI 1)), (2, .int (nI 18))]) cx dJ21_newLength_7 rfl (by decide) rfl ?_
    refine V.iconst (v := (nI 0)) cx dJ21_newLength_8 (by decide) ?_
    refine V.iload_n cx dJ21_newLength_9 rfl 0 rfl ?_
    refine V.nicmp_ge (a := 0) (b := 34) (tgt := 21) cx (by decide) (by decide) dJ21_newLength_10 (by decide) (fun cx => ?_) (fun cx => ?_)
    · exact absurd cx (by decide)
    · refine V.iload_n cx dJ21_newLength_13 rfl 0 rfl ?_
      refine V.ldc cx q584 dJ21_newLength_14 ?_
      refine V.icmp_gt (tgt := 21) cx dJ21_newLength_16 (by decide) (fun cy => ?_) (fun cy => ?_)
      · exact absurd cy (by decide)
      · refine V.iload_n cx dJ21_newLength_19 rfl 0 rfl ?_
        exact V.ireturn (x := (nI 34)) cx rfl rfl ⟨rfl, rfl⟩ (by decide) (by decide) dJ21_newLength_20
  · show V g A κ _ _ 0 0 h 0 [(0, .int (nI 32)), (1, .int (nI 2)), (2, .int (nI 36))] []
    refine V.iload_n cx dJ21_newLength_0 rfl 0 rfl ?_
    refine V.iload_n cx dJ21_newLength_1 rfl 1 rfl ?_
    refine V.iload_n cx dJ21_newLength_2 rfl 2 rfl ?_
    refine V.callS (As := [.int (nI 2), .int (nI 36)]) (rest := [.int (nI 32)]) cx (m_max l hl g A h _ _) q581 q582 (na := 2) rfl (by decide +kernel) (Nat.le_of_ble_eq_true rfl) (by decide) (by decide) (by decide) rfl dJ21_newLength_3 (fun _ _ _ hx => hx.elim) (fun v3 h4 hp => ?_)
    obtain ⟨rfl, rfl⟩ := hp
    show V g A κ _ _ 0 0 h 6 [(0, .int (nI 32)), (1, .int (nI 2)), (2, .int (nI 36))] [.int (if nI 2 < nI 36 then nI 36 else nI 2), .int (nI 32)]
    refine V.iadd cx dJ21_newLength_6 ?_
    refine V.toi (y := nI 68) (by decide) ?_
    refine V.istore_n (lv' := [(3, .int (nI 68)), (0, .int (nI 32)), (1, .int (nI 2)), (2, .int (nI 36))]) cx dJ21_newLength_7 rfl (by decide) rfl ?_
    refine V.iconst (v := (nI 0)) cx dJ21_newLength_8 (by decide) ?_
    refine V.iload_n cx dJ21_newLength_9 rfl 0 rfl ?_
    refine V.nicmp_ge (a := 0) (b := 68) (tgt := 21) cx (by decide) (by decide) dJ21_newLength_10 (by decide) (fun cx => ?_) (fun cx => ?_)
    · exact absurd cx (by decide)
    · refine V.iload_n cx dJ21_newLength_13 rfl 0 rfl ?_
      refine V.ldc cx q584 dJ21_newLength_14 ?_
      refine V.icmp_gt (tgt := 21) cx dJ21_newLength_16 (by decide) (fun cy => ?_) (fun cy => ?_)
      · exact absurd cy (by decide)
      · refine V.iload_n cx dJ21_newLength_19 rfl 0 rfl ?_
        exact V.ireturn (x := (nI 68)) cx rfl rfl ⟨rfl, rfl⟩ (by decide) (by decide) dJ21_newLength_20
