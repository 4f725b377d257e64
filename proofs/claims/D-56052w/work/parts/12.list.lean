/-! JDK: ArrayList -/
set_option maxRecDepth 100000
theorem Rv.put {g : GE} {h : AHT} {b a ci : Nat} {C : String} {fs fs' : List Value} (hv : Rv g h b C) (ha : h a = some (.inr (ci, fs))) : Rv g (up h a (.inr (ci, fs'))) b C := by
  rcases hv with ⟨c1, N, T, f1, h1, h2⟩ | hF
  · by_cases e : b = a
    · subst e
      rw [ha] at h1
      cases h1
      exact Or.inl ⟨_, N, T, _, up_s, h2⟩
    · exact Or.inl ⟨c1, N, T, f1, by rw [up_n e]; exact h1, h2⟩
  · exact Or.inr hF
theorem Rv.new {g : GE} {h : AHT} {b q : Nat} {c : va_E} {C : String} (hv : Rv g h b C) (hq : h q = none) : Rv g (up h q c) b C := by
  rcases hv with ⟨c1, N, T, f1, h1, h2⟩ | hF
  · exact Or.inl ⟨c1, N, T, f1, up_o h1 hq, h2⟩
  · exact Or.inr hF
theorem Rv.arr {g : GE} {h : AHT} {b a : Nat} {x0 : ClassId × vp_A} {c : va_E} {C : String} (hv : Rv g h b C) (ha : h a = some (.inl x0)) : Rv g (up h a c) b C := by
  rcases hv with ⟨c1, N, T, f1, h1, h2⟩ | hF
  · exact Or.inl ⟨c1, N, T, f1, by rw [up_n (fun e => by rw [e, ha] at h1; cases h1)]; exact h1, h2⟩
  · exact Or.inr hF
theorem Rv.off {g : GE} {h h' : AHT} {b : Nat} {S : List Nat} {C : String} (hv : Rv g h b C) (o : Off S h h') (hs : b ∉ S) : Rv g h' b C := by
  rcases hv with ⟨c1, N, T, f1, h1, h2⟩ | hF
  · exact Or.inl ⟨c1, N, T, f1, o b _ hs h1, h2⟩
  · exact Or.inr hF
/-- an ArrayList's capacity, what its growth costs -/
def capOf (n : Nat) : Nat := if n = 0 then 0 else if n ≤ 10 then 10 else if n ≤ 15 then 15 else 22
def grS (n : Nat) : Nat := if n = 0 then 10 else if n = 10 then 15 else if n = 15 then 22 else 0
def grC (n : Nat) : Nat := if n = 0 ∨ n = 10 ∨ n = 15 then 1 else 0
/-- the ArrayList al, its array dt, holds xs -/
def AL (g : GE) (h : AHT) (al dt : Nat) (xs : List Nat) : Prop := ∃ (md : Int32) (f : Nat → Option Nat), h al = some (ob 20 [.int md, .ref dt, .int (nI xs.length)]) ∧ (∀ j, j < xs.length → f j = xs[j]?) ∧ xs.length ≤ 22 ∧ ((xs = [] ∧ dt = g.ad 4 3) ∨ (xs ≠ [] ∧ h dt = some (aQ g 5 (capOf xs.length) f)))
theorem AL.off {g : GE} {S : List Nat} {h h' : AHT} {al dt : Nat} {xs : List Nat} (a : AL g h al dt xs) (o : Off S h h') (h1 : al ∉ S) (h2 : dt ∉ S) : AL g h' al dt xs := by
  obtain ⟨md, f, e1, e2, e3, e4⟩ := a
  exact ⟨md, f, o al _ h1 e1, e2, e3, e4.imp id (fun z => ⟨z.1, o dt _ h2 z.2⟩)⟩
abbrev cJ2_init : ByteArray := prog_45_method_1_code
def yJ2_init : MethodName := ⟨RJ2, "<init>", "()V"⟩
theorem dJ2_init_0 : decode cJ2_init 0 = .ok (.aload_n 0, 1) := by decide +kernel
theorem dJ2_init_1 : decode cJ2_init 1 = .ok (.invokespecial 1, 3) := by decide +kernel
theorem dJ2_init_4 : decode cJ2_init 4 = .ok (.return_, 1) := by decide +kernel
set_option maxHeartbeats 4000000 in
theorem m_acInit (l : Launch) (hl : l.stackTraces = false) (g : GE) (A : Nat → Prop) (h : AHT) (a : Nat) : U_ l g A yJ2_init 2 0 0 [.ref a] h (fun v h' => v = none ∧ h = h') noX := by
  refine U_.of (own := RJ2) (cc := cJ2_init) (L := 1) (ret := (none)) hl rfl (plainFor_of_name (by decide)) ⟨by decide, by decide⟩ q204 q86 (by decide) (fun _ => rfl) (Nat.le_of_ble_eq_true rfl) (fun κ cx => ?_)
  show V g A κ _ _ 0 0 h 0 [(0, .ref a)] []
  refine V.aload_n cx dJ2_init_0 rfl 0 rfl ?_
  refine V.objInit cx q205 q140 q141 (by decide) (Nat.le_of_ble_eq_true rfl) dJ2_init_1 ?_
  exact V.vreturn cx rfl ⟨rfl, rfl⟩ (by decide) (by decide) dJ2_init_4
abbrev cJ32_init : ByteArray := prog_46_method_1_code
def yJ32_init : MethodName := ⟨RJ32, "<init>", "()V"⟩
def dkwJ32_init_0 : List UInt8 := [42, 183, 0, 1, 42, 3, 181, 0, 7, 177]
abbrev dktJ32_init_0 : List UInt8 := dkwJ32_init_0 ++ []
theorem dksJ32_init_0 : cJ32_init.data.toList.drop 0 = dktJ32_init_0 := by decide +kernel
theorem dJ32_init_0 : decode cJ32_init 0 = .ok (.aload_n 0, 1) := dk_42 (dk_at dksJ32_init_0 0 rfl rfl)
theorem dJ32_init_1 : decode cJ32_init 1 = .ok (.invokespecial 1, 3) := dk_183 0 1 (dk_at dksJ32_init_0 1 rfl rfl)
theorem dJ32_init_4 : decode cJ32_init 4 = .ok (.aload_n 0, 1) := dk_42 (dk_at dksJ32_init_0 4 rfl rfl)
theorem dJ32_init_5 : decode cJ32_init 5 = .ok (.iconst 0, 1) := dk_3 (dk_at dksJ32_init_0 5 rfl rfl)
theorem dJ32_init_6 : decode cJ32_init 6 = .ok (.putfield 7, 3) := dk_181 0 7 (dk_at dksJ32_init_0 6 rfl rfl)
theorem dJ32_init_9 : decode cJ32_init 9 = .ok (.return_, 1) := dk_177 (dk_at dksJ32_init_0 9 rfl rfl)
set_option maxHeartbeats 4000000 in
theorem m_ablInit (l : Launch) (hl : l.stackTraces = false) (g : GE) (A : Nat → Prop) (h : AHT) (a : Nat) (x z : Value) (y : Int32) (ha : h a = some (ob 20 [.int y, x, z])) : U_ l g A yJ32_init 3 0 0 [.ref a] h (fun v h' => v = none ∧ up h a (ob 20 [.int 0, x, z]) = h') noX := by
  refine U_.of (own := RJ32) (cc := cJ32_init) (L := 1) (ret := (none)) hl rfl (plainFor_of_name (by decide)) ⟨by decide, by decide⟩ q298 q125 (by decide) (fun _ => rfl) (Nat.le_of_ble_eq_true rfl) (fun κ cx => ?_)
  show V g A κ _ _ 0 0 h 0 [(0, .ref a)] []
  refine V.aload_n cx dJ32_init_0 rfl 0 rfl ?_
  refine V.callI (As := []) (rest := []) cx (m_acInit l hl g A h a) q299 q203 rfl (na := 0) rfl (by decide +kernel) (Nat.le_of_ble_eq_true rfl) (by decide) (by decide) (by decide) rfl dJ32_init_1 (fun _ _ _ hx => hx.elim) (fun v1 h2 hp => ?_)
  obtain ⟨rfl, rfl⟩ := hp
  show V g A κ _ _ 0 0 h 4 [(0, .ref a)] []
  refine V.aload_n cx dJ32_init_4 rfl 0 rfl ?_
  refine V.iconst (v := (nI 0)) cx dJ32_init_5 (by decide) ?_
  refine V.put (ty := tyJ33 0) cx kJ33 ha 0 (by decide) rfl (tyJ33_ok 0 (by decide)) rfl rfl (Nat.le_of_ble_eq_true rfl) q306 rfl dJ32_init_6 ?_
  show V g A κ _ _ 0 0 (up h a (ob 20 [.int (nI 0), x, z])) 9 [(0, .ref a)] []
  refine V.hto (h' := up h a (ob 20 [.int 0, x, z])) rfl ?_
  exact V.vreturn cx rfl ⟨rfl, rfl⟩ (by decide) (by decide) dJ32_init_9
abbrev cJ33_init : ByteArray := prog_50_method_2_code
def yJ33_init : MethodName := ⟨RJ33, "<init>", "()V"⟩
def dkwJ33_init_0 : List UInt8 := [42, 183, 0, 1, 42, 178, 0, 39, 181, 0, 9, 177]
abbrev dktJ33_init_0 : List UInt8 := dkwJ33_init_0 ++ []
theorem dksJ33_init_0 : cJ33_init.data.toList.drop 0 = dktJ33_init_0 := by decide +kernel
theorem dJ33_init_0 : decode cJ33_init 0 = .ok (.aload_n 0, 1) := dk_42 (dk_at dksJ33_init_0 0 rfl rfl)
theorem dJ33_init_1 : decode cJ33_init 1 = .ok (.invokespecial 1, 3) := dk_183 0 1 (dk_at dksJ33_init_0 1 rfl rfl)
theorem dJ33_init_4 : decode cJ33_init 4 = .ok (.aload_n 0, 1) := dk_42 (dk_at dksJ33_init_0 4 rfl rfl)
theorem dJ33_init_5 : decode cJ33_init 5 = .ok (.getstatic 39, 3) := dk_178 0 39 (dk_at dksJ33_init_0 5 rfl rfl)
theorem dJ33_init_8 : decode cJ33_init 8 = .ok (.putfield 9, 3) := dk_181 0 9 (dk_at dksJ33_init_0 8 rfl rfl)
theorem dJ33_init_11 : decode cJ33_init 11 = .ok (.return_, 1) := dk_177 (dk_at dksJ33_init_0 11 rfl rfl)
set_option maxHeartbeats 4000000 in
theorem m_alInit (l : Launch) (hl : l.stackTraces = false) (g : GE) (A : Nat → Prop) (h : AHT) (a : Nat) (y : Int32) (x z : Value) (ha : h a = some (ob 20 [.int 0, .null, .int 0])) : U_ l g A yJ33_init 4 0 0 [.ref a] h (fun v h' => v = none ∧ AL g h' a (g.ad 4 3) [] ∧ Off [a] h h') noX := by
  refine U_.of (own := RJ33) (cc := cJ33_init) (L := 1) (ret := (none)) hl rfl (plainFor_of_name (by decide)) ⟨by decide, by decide⟩ q295 q126 (by decide) (fun _ => rfl) (Nat.le_of_ble_eq_true rfl) (fun κ cx => ?_)
  show V g A κ _ _ 0 0 h 0 [(0, .ref a)] []
  refine V.aload_n cx dJ33_init_0 rfl 0 rfl ?_
  refine V.callI (As := []) (rest := []) cx (m_ablInit l hl g A h a _ _ _ ha) q296 q297 rfl (na := 0) rfl (by decide +kernel) (Nat.le_of_ble_eq_true rfl) (by decide) (by decide) (by decide) rfl dJ33_init_1 (fun _ _ _ hx => hx.elim) (fun v1 h2 hp => ?_)
  obtain ⟨rfl, rfl⟩ := hp
  show V g A κ _ _ 0 0 (up h a (ob 20 [.int 0, .null, .int 0])) 4 [(0, .ref a)] []
  refine V.aload_n cx dJ33_init_4 rfl 0 rfl ?_
  refine V.gets (C := "java/util/ArrayList") (v := .ref (g.ad 4 3)) cx (by simp [zs]) q300 rfl dJ33_init_5 ?_
  refine V.put (ty := tyJ33 1) cx kJ33 up_s 1 (by decide) rfl (tyJ33_ok 1 (by decide)) rfl rfl (Nat.le_of_ble_eq_true rfl) q302 rfl dJ33_init_8 ?_
  show V g A κ _ _ 0 0 (up (up h a (ob 20 [.int 0, .null, .int 0])) a (ob 20 [.int 0, .ref (g.ad 4 3), .int 0])) 11 [(0, .ref a)] []
  exact V.vreturn cx rfl ⟨rfl, ⟨0, fun _ => none, up_s, fun j hj => absurd hj (Nat.not_lt_zero _), by decide, Or.inl ⟨rfl, rfl⟩⟩, (Off.rf.put List.mem_cons_self).put List.mem_cons_self⟩ (by decide) (by decide) dJ33_init_11
abbrev cJ33_size : ByteArray := prog_50_method_8_code
def yJ33_size : MethodName := ⟨RJ33, "size", "()I"⟩
theorem dJ33_size_0 : decode cJ33_size 0 = .ok (.aload_n 0, 1) := by decide +kernel
theorem dJ33_size_1 : decode cJ33_size 1 = .ok (.getfield 48, 3) := by decide +kernel
theorem dJ33_size_4 : decode cJ33_size 4 = .ok (.ireturn, 1) := by decide +kernel
set_option maxHeartbeats 4000000 in
theorem m_alSize (l : Launch) (hl : l.stackTraces = false) (g : GE) (A : Nat → Prop) (h : AHT) (al dt : Nat) (xs : List Nat) (ha : AL g h al dt xs) : U_ l g A yJ33_size 1 0 0 [.ref al] h (fun v h' => v = some (.int (nI xs.length)) ∧ h = h') noX := by
  refine U_.of (own := RJ33) (cc := cJ33_size) (L := 1) (ret := (some Jvm.ClassFile.FieldType.int)) hl rfl (plainFor_of_name (by decide)) ⟨by decide, by decide⟩ q642 q126 (by decide) (fun e => absurd e (by decide)) (Nat.le_of_ble_eq_true rfl) (fun κ cx => ?_)
  show V g A κ _ _ 0 0 h 0 [(0, .ref al)] []
  obtain ⟨md, f, e1, e2, e3, e4⟩ := ha
  refine V.aload_n cx dJ33_size_0 rfl 0 rfl ?_
  refine V.get cx kJ33 e1 2 (by decide) q305 rfl rfl dJ33_size_1 ?_
  exact V.ireturn (x := (nI xs.length)) cx rfl rfl ⟨rfl, rfl⟩ (by decide) (by decide) dJ33_size_4
abbrev cJ33_isEmpty : ByteArray := prog_50_method_9_code
def yJ33_isEmpty : MethodName := ⟨RJ33, "isEmpty", "()Z"⟩
def dkwJ33_isEmpty_0 : List UInt8 := [42, 180, 0, 48, 154, 0, 7, 4, 167, 0, 4, 3, 172]
abbrev dktJ33_isEmpty_0 : List UInt8 := dkwJ33_isEmpty_0 ++ []
theorem dksJ33_isEmpty_0 : cJ33_isEmpty.data.toList.drop 0 = dktJ33_isEmpty_0 := by decide +kernel
theorem dJ33_isEmpty_0 : decode cJ33_isEmpty 0 = .ok (.aload_n 0, 1) := dk_42 (dk_at dksJ33_isEmpty_0 0 rfl rfl)
theorem dJ33_isEmpty_1 : decode cJ33_isEmpty 1 = .ok (.getfield 48, 3) := dk_180 0 48 (dk_at dksJ33_isEmpty_0 1 rfl rfl)
theorem dJ33_isEmpty_4 : decode cJ33_isEmpty 4 = .ok (.ifCond .ne 7, 3) := dk_154 0 7 (dk_at dksJ33_isEmpty_0 4 rfl rfl)
theorem dJ33_isEmpty_7 : decode cJ33_isEmpty 7 = .ok (.iconst 1, 1) := dk_4 (dk_at dksJ33_isEmpty_0 7 rfl rfl)
theorem dJ33_isEmpty_8 : decode cJ33_isEmpty 8 = .ok (.goto 4, 3) := dk_167 0 4 (dk_at dksJ33_isEmpty_0 8 rfl rfl)
theorem dJ33_isEmpty_11 : decode cJ33_isEmpty 11 = .ok (.iconst 0, 1) := dk_3 (dk_at dksJ33_isEmpty_0 11 rfl rfl)
theorem dJ33_isEmpty_12 : decode cJ33_isEmpty 12 = .ok (.ireturn, 1) := dk_172 (dk_at dksJ33_isEmpty_0 12 rfl rfl)
set_option maxHeartbeats 4000000 in
theorem m_alIsEmpty (l : Launch) (hl : l.stackTraces = false) (g : GE) (A : Nat → Prop) (h : AHT) (al dt : Nat) (xs : List Nat) (ha : AL g h al dt xs) : U_ l g A yJ33_isEmpty 1 0 0 [.ref al] h (fun v h' => v = some (.int (b2 xs.isEmpty)) ∧ h = h') noX := by
  refine U_.of (own := RJ33) (cc := cJ33_isEmpty) (L := 1) (ret := (some Jvm.ClassFile.FieldType.boolean)) hl rfl (plainFor_of_name (by decide)) ⟨by decide, by decide⟩ q1625 q126 (by decide) (fun e => absurd e (by decide)) (Nat.le_of_ble_eq_true rfl) (fun κ cx => ?_)
  show V g A κ _ _ 0 0 h 0 [(0, .ref al)] []
  obtain ⟨md, f, e1, e2, e3, e4⟩ := ha
  refine V.aload_n cx dJ33_isEmpty_0 rfl 0 rfl ?_
  refine V.get cx kJ33 e1 2 (by decide) q305 rfl rfl dJ33_isEmpty_1 ?_
  refine V.nif_ne (a := xs.length) (tgt := 11) cx (by omega) dJ33_isEmpty_4 (by decide) (fun c_4 => ?_) (fun c_4 => ?_)
  · refine V.iconst (v := (nI 0)) cx dJ33_isEmpty_11 (by decide) ?_
    refine V.toi (y := b2 xs.isEmpty) (by cases xs; exact absurd rfl c_4; rfl) ?_
    exact V.ireturn (x := (b2 xs.isEmpty)) cx rfl b2_narrow ⟨rfl, rfl⟩ (by decide) (by decide) dJ33_isEmpty_12
  · refine V.iconst (v := (nI 1)) cx dJ33_isEmpty_7 (by decide) ?_
    refine V.goto (tgt := 12) cx dJ33_isEmpty_8 (by decide) ?_
    refine V.toi (y := b2 xs.isEmpty) (by cases xs; rfl; exact absurd c_4 (by simp)) ?_
    exact V.ireturn (x := (b2 xs.isEmpty)) cx rfl b2_narrow ⟨rfl, rfl⟩ (by decide) (by decide) dJ33_isEmpty_12
abbrev cJ24_checkIndex : ByteArray := prog_77_method_11_code
def yJ24_checkIndex : MethodName := ⟨RJ24, "checkIndex", "(IILjava/util/function/BiFunction;)I"⟩
def dkwJ24_checkIndex_0 : List UInt8 := [26, 155, 0, 8, 26, 27, 161, 0, 10, 44, 26, 27, 184, 0, 95, 191, 26, 172]
abbrev dktJ24_checkIndex_0 : List UInt8 := dkwJ24_checkIndex_0 ++ []
theorem dksJ24_checkIndex_0 : cJ24_checkIndex.data.toList.drop 0 = dktJ24_checkIndex_0 := by decide +kernel
theorem dJ24_checkIndex_0 : decode cJ24_checkIndex 0 = .ok (.iload_n 0, 1) := dk_26 (dk_at dksJ24_checkIndex_0 0 rfl rfl)
theorem dJ24_checkIndex_1 : decode cJ24_checkIndex 1 = .ok (.ifCond .lt 8, 3) := dk_155 0 8 (dk_at dksJ24_checkIndex_0 1 rfl rfl)
theorem dJ24_checkIndex_4 : decode cJ24_checkIndex 4 = .ok (.iload_n 0, 1) := dk_26 (dk_at dksJ24_checkIndex_0 4 rfl rfl)
theorem dJ24_checkIndex_5 : decode cJ24_checkIndex 5 = .ok (.iload_n 1, 1) := dk_27 (dk_at dksJ24_checkIndex_0 5 rfl rfl)
theorem dJ24_checkIndex_6 : decode cJ24_checkIndex 6 = .ok (.if_icmp .lt 10, 3) := dk_161 0 10 (dk_at dksJ24_checkIndex_0 6 rfl rfl)
theorem dJ24_checkIndex_9 : decode cJ24_checkIndex 9 = .ok (.aload_n 2, 1) := dk_44 (dk_at dksJ24_checkIndex_0 9 rfl rfl)
theorem dJ24_checkIndex_10 : decode cJ24_checkIndex 10 = .ok (.iload_n 0, 1) := dk_26 (dk_at dksJ24_checkIndex_0 10 rfl rfl)
theorem dJ24_checkIndex_11 : decode cJ24_checkIndex 11 = .ok (.iload_n 1, 1) := dk_27 (dk_at dksJ24_checkIndex_0 11 rfl rfl)
theorem dJ24_checkIndex_12 : decode cJ24_checkIndex 12 = .ok (.invokestatic 95, 3) := dk_184 0 95 (dk_at dksJ24_checkIndex_0 12 rfl rfl)
theorem dJ24_checkIndex_15 : decode cJ24_checkIndex 15 = .ok (.athrow, 1) := dk_191 (dk_at dksJ24_checkIndex_0 15 rfl rfl)
theorem dJ24_checkIndex_16 : decode cJ24_checkIndex 16 = .ok (.iload_n 0, 1) := dk_26 (dk_at dksJ24_checkIndex_0 16 rfl rfl)
theorem dJ24_checkIndex_17 : decode cJ24_checkIndex 17 = .ok (.ireturn, 1) := dk_172 (dk_at dksJ24_checkIndex_0 17 rfl rfl)
set_option maxHeartbeats 4000000 in
theorem m_pcheckIndex (l : Launch) (hl : l.stackTraces = false) (g : GE) (A : Nat → Prop) (h : AHT) (i n : Nat) (hi : i < n) (hn : n < 2 ^ 24) : U_ l g A yJ24_checkIndex 1 0 0 [.int (nI i), .int (nI n), .null] h (fun v h' => v = some (.int (nI i)) ∧ h = h') noX := by
  refine U_.of (own := RJ24) (cc := cJ24_checkIndex) (L := 3) (ret := (some Jvm.ClassFile.FieldType.int)) hl rfl (plainFor_of_name (by decide)) ⟨by decide, by decide⟩ q1592 q113 (by decide) (fun e => absurd e (by decide)) (Nat.le_of_ble_eq_true rfl) (fun κ cx => ?_)
  show V g A κ _ _ 0 0 h 0 [(0, .int (nI i)), (1, .int (nI n)), (2, .null)] []
  refine V.iload_n cx dJ24_checkIndex_0 rfl 0 rfl ?_
  refine V.nif_lt (a := i) (tgt := 9) cx (by omega) dJ24_checkIndex_1 (by decide) ?_
  refine V.iload_n cx dJ24_checkIndex_4 rfl 0 rfl ?_
  refine V.iload_n cx dJ24_checkIndex_5 rfl 1 rfl ?_
  refine V.nicmp_lt (a := i) (b := n) (tgt := 16) cx (by omega) (by omega) dJ24_checkIndex_6 (by decide) (fun c_6 => ?_) (fun c_6 => ?_)
  · refine V.iload_n cx dJ24_checkIndex_16 rfl 0 rfl ?_
    exact V.ireturn (x := (nI i)) cx rfl rfl ⟨rfl, rfl⟩ (by decide) (by decide) dJ24_checkIndex_17
  · exact absurd hi (by omega)
abbrev cJ26_checkIndex : ByteArray := prog_62_method_17_code
def yJ26_checkIndex : MethodName := ⟨RJ26, "checkIndex", "(II)I"⟩
def dkwJ26_checkIndex_0 : List UInt8 := [26, 27, 1, 184, 0, 105, 172]
abbrev dktJ26_checkIndex_0 : List UInt8 := dkwJ26_checkIndex_0 ++ []
theorem dksJ26_checkIndex_0 : cJ26_checkIndex.data.toList.drop 0 = dktJ26_checkIndex_0 := by decide +kernel
theorem dJ26_checkIndex_0 : decode cJ26_checkIndex 0 = .ok (.iload_n 0, 1) := dk_26 (dk_at dksJ26_checkIndex_0 0 rfl rfl)
theorem dJ26_checkIndex_1 : decode cJ26_checkIndex 1 = .ok (.iload_n 1, 1) := dk_27 (dk_at dksJ26_checkIndex_0 1 rfl rfl)
theorem dJ26_checkIndex_2 : decode cJ26_checkIndex 2 = .ok (.aconst_null, 1) := dk_1 (dk_at dksJ26_checkIndex_0 2 rfl rfl)
theorem dJ26_checkIndex_3 : decode cJ26_checkIndex 3 = .ok (.invokestatic 105, 3) := dk_184 0 105 (dk_at dksJ26_checkIndex_0 3 rfl rfl)
theorem dJ26_checkIndex_6 : decode cJ26_checkIndex 6 = .ok (.ireturn, 1) := dk_172 (dk_at dksJ26_checkIndex_0 6 rfl rfl)
set_option maxHeartbeats 4000000 in
theorem m_ocheckIndex (l : Launch) (hl : l.stackTraces = false) (g : GE) (A : Nat → Prop) (h : AHT) (i n : Nat) (hi : i < n) (hn : n < 2 ^ 24) : U_ l g A yJ26_checkIndex 2 0 0 [.int (nI i), .int (nI n)] h (fun v h' => v = some (.int (nI i)) ∧ h = h') noX := by
  refine U_.of (own := RJ26) (cc := cJ26_checkIndex) (L := 2) (ret := (some Jvm.ClassFile.FieldType.int)) hl rfl (plainFor_of_name (by decide)) ⟨by decide, by decide⟩ q1589 q115 (by decide) (fun e => absurd e (by decide)) (Nat.le_of_ble_eq_true rfl) (fun κ cx => ?_)
  show V g A κ _ _ 0 0 h 0 [(0, .int (nI i)), (1, .int (nI n))] []
  refine V.iload_n cx dJ26_checkIndex_0 rfl 0 rfl ?_
  refine V.iload_n cx dJ26_checkIndex_1 rfl 1 rfl ?_
  refine V.null cx dJ26_checkIndex_2 ?_
  refine V.callS (As := [.int (nI i), .int (nI n), .null]) (rest := []) cx (m_pcheckIndex l hl g A h i n hi hn) q1590 q1591 (na := 3) rfl (by decide +kernel) (Nat.le_of_ble_eq_true rfl) (by decide) (by decide) (by decide) rfl dJ26_checkIndex_3 (fun _ _ _ hx => hx.elim) (fun v1 h2 hp => ?_)
  obtain ⟨rfl, rfl⟩ := hp
  show V g A κ _ _ 0 0 h 6 [(0, .int (nI i)), (1, .int (nI n))] [.int (nI i)]
  exact V.ireturn (x := (nI i)) cx rfl rfl ⟨rfl, rfl⟩ (by decide) (by decide) dJ26_checkIndex_6
abbrev cJ33_elementData : ByteArray := prog_50_method_18_code
def yJ33_elementData : MethodName := ⟨RJ33, "elementData", "(I)Ljava/lang/Object;"⟩
def dkwJ33_elementData_0 : List UInt8 := [42, 180, 0, 9, 27, 50, 176]
abbrev dktJ33_elementData_0 : List UInt8 := dkwJ33_elementData_0 ++ []
theorem dksJ33_elementData_0 : cJ33_elementData.data.toList.drop 0 = dktJ33_elementData_0 := by decide +kernel
theorem dJ33_elementData_0 : decode cJ33_elementData 0 = .ok (.aload_n 0, 1) := dk_42 (dk_at dksJ33_elementData_0 0 rfl rfl)
theorem dJ33_elementData_1 : decode cJ33_elementData 1 = .ok (.getfield 9, 3) := dk_180 0 9 (dk_at dksJ33_elementData_0 1 rfl rfl)
theorem dJ33_elementData_4 : decode cJ33_elementData 4 = .ok (.iload_n 1, 1) := dk_27 (dk_at dksJ33_elementData_0 4 rfl rfl)
theorem dJ33_elementData_5 : decode cJ33_elementData 5 = .ok (.aaload, 1) := dk_50 (dk_at dksJ33_elementData_0 5 rfl rfl)
theorem dJ33_elementData_6 : decode cJ33_elementData 6 = .ok (.areturn, 1) := dk_176 (dk_at dksJ33_elementData_0 6 rfl rfl)
set_option maxHeartbeats 4000000 in
theorem m_alElem (l : Launch) (hl : l.stackTraces = false) (g : GE) (A : Nat → Prop) (h : AHT) (al dt : Nat) (xs : List Nat) (i : Nat) (hi : i < xs.length) (ha : AL g h al dt xs) : U_ l g A yJ33_elementData 1 0 0 [.ref al, .int (nI i)] h (fun v h' => v = some (va_rf xs[i]?) ∧ h = h') noX := by
  refine U_.of (own := RJ33) (cc := cJ33_elementData) (L := 2) (ret := (some (Jvm.ClassFile.FieldType.object "java/lang/Object"))) hl rfl (plainFor_of_name (by decide)) ⟨by decide, by decide⟩ q1596 q126 (by decide) (fun e => absurd e (by decide)) (Nat.le_of_ble_eq_true rfl) (fun κ cx => ?_)
  show V g A κ _ _ 0 0 h 0 [(0, .ref al), (1, .int (nI i))] []
  obtain ⟨md, f, e1, e2, e3, e4⟩ := ha
  rcases e4 with ⟨rfl, -⟩ | ⟨e4, e5⟩
  · exact absurd hi (Nat.not_lt_zero _)
  have hcap : xs.length ≤ capOf xs.length ∧ capOf xs.length < 2 ^ 24 := by unfold capOf; split; omega; split; omega; split; omega; omega
  refine V.aload_n cx dJ33_elementData_0 rfl 0 rfl ?_
  refine V.get cx kJ33 e1 1 (by decide) q302 rfl rfl dJ33_elementData_1 ?_
  refine V.iload_n cx dJ33_elementData_4 rfl 1 rfl ?_
  refine V.aaload (j := i) cx e5 rfl rfl (by omega) (by omega) dJ33_elementData_5 ?_
  rw [e2 i hi]
  exact V.areturnq cx rfl (Or.inl ⟨_, rfl⟩) ⟨rfl, rfl⟩ (by decide) (by decide) dJ33_elementData_6
abbrev cJ33_get : ByteArray := prog_50_method_20_code
def yJ33_get : MethodName := ⟨RJ33, "get", "(I)Ljava/lang/Object;"⟩
def dkwJ33_get_0 : List UInt8 := [27, 42, 180, 0, 48, 184, 0, 118, 87, 42, 27, 182, 0, 123, 176]
abbrev dktJ33_get_0 : List UInt8 := dkwJ33_get_0 ++ []
theorem dksJ33_get_0 : cJ33_get.data.toList.drop 0 = dktJ33_get_0 := by decide +kernel
theorem dJ33_get_0 : decode cJ33_get 0 = .ok (.iload_n 1, 1) := dk_27 (dk_at dksJ33_get_0 0 rfl rfl)
theorem dJ33_get_1 : decode cJ33_get 1 = .ok (.aload_n 0, 1) := dk_42 (dk_at dksJ33_get_0 1 rfl rfl)
theorem dJ33_get_2 : decode cJ33_get 2 = .ok (.getfield 48, 3) := dk_180 0 48 (dk_at dksJ33_get_0 2 rfl rfl)
theorem dJ33_get_5 : decode cJ33_get 5 = .ok (.invokestatic 118, 3) := dk_184 0 118 (dk_at dksJ33_get_0 5 rfl rfl)
theorem dJ33_get_8 : decode cJ33_get 8 = .ok (.pop, 1) := dk_87 (dk_at dksJ33_get_0 8 rfl rfl)
theorem dJ33_get_9 : decode cJ33_get 9 = .ok (.aload_n 0, 1) := dk_42 (dk_at dksJ33_get_0 9 rfl rfl)
theorem dJ33_get_10 : decode cJ33_get 10 = .ok (.iload_n 1, 1) := dk_27 (dk_at dksJ33_get_0 10 rfl rfl)
theorem dJ33_get_11 : decode cJ33_get 11 = .ok (.invokevirtual 123, 3) := dk_182 0 123 (dk_at dksJ33_get_0 11 rfl rfl)
theorem dJ33_get_14 : decode cJ33_get 14 = .ok (.areturn, 1) := dk_176 (dk_at dksJ33_get_0 14 rfl rfl)
set_option maxHeartbeats 4000000 in
theorem m_alGet (l : Launch) (hl : l.stackTraces = false) (g : GE) (A : Nat → Prop) (h : AHT) (al dt : Nat) (xs : List Nat) (i : Nat) (hi : i < xs.length) (ha : AL g h al dt xs) : U_ l g A yJ33_get 3 0 0 [.ref al, .int (nI i)] h (fun v h' => v = some (va_rf xs[i]?) ∧ h = h') noX := by
  refine U_.of (own := RJ33) (cc := cJ33_get) (L := 2) (ret := (some (Jvm.ClassFile.FieldType.object "java/lang/Object"))) hl rfl (plainFor_of_name (by decide)) ⟨by decide, by decide⟩ q1586 q126 (by decide) (fun e => absurd e (by decide)) (Nat.le_of_ble_eq_true rfl) (fun κ cx => ?_)
  show V g A κ _ _ 0 0 h 0 [(0, .ref al), (1, .int (nI i))] []
  have ha0 := ha
  obtain ⟨md, f, e1, e2, e3, e4⟩ := ha
  refine V.iload_n cx dJ33_get_0 rfl 1 rfl ?_
  refine V.aload_n cx dJ33_get_1 rfl 0 rfl ?_
  refine V.get cx kJ33 e1 2 (by decide) q305 rfl rfl dJ33_get_2 ?_
  refine V.callS (As := [.int (nI i), .int (nI xs.length)]) (rest := []) cx (m_ocheckIndex l hl g A h i xs.length hi (by omega)) q1587 q1588 (na := 2) rfl (by decide +kernel) (Nat.le_of_ble_eq_true rfl) (by decide) (by decide) (by decide) rfl dJ33_get_5 (fun _ _ _ hx => hx.elim) (fun v1 h2 hp => ?_)
  obtain ⟨rfl, rfl⟩ := hp
  show V g A κ _ _ 0 0 h 8 [(0, .ref al), (1, .int (nI i))] [.int (nI i)]
  refine V.pop cx dJ33_get_8 rfl ?_
  refine V.aload_n cx dJ33_get_9 rfl 0 rfl ?_
  refine V.iload_n cx dJ33_get_10 rfl 1 rfl ?_
  refine V.callV (As := [.int (nI i)]) (rest := []) (C := "java/util/ArrayList") cx (m_alElem l hl g A h al dt xs i hi ha0) rfl q1593 q1594 q1595 (Rv.of kJ33 e1) (na := 1) rfl (by decide +kernel) (Nat.le_of_ble_eq_true rfl) (by decide) (by decide) (by decide) rfl dJ33_get_11 (fun _ _ _ hx => hx.elim) (fun v3 h4 hp => ?_)
  obtain ⟨rfl, rfl⟩ := hp
  show V g A κ _ _ 0 0 h 14 [(0, .ref al), (1, .int (nI i))] [va_rf (xs[i]?)]
  exact V.areturnq cx rfl (Or.inl ⟨_, rfl⟩) ⟨rfl, rfl⟩ (by decide) (by decide) dJ33_get_14
abbrev cJ21_newLength : ByteArray := prog_76_method_27_code
def yJ21_newLength : MethodName := ⟨RJ21, "newLength", "(III)I"⟩
def dkwJ21_newLength_1 : List UInt8 := [184, 0, 201, 172]
abbrev dktJ21_newLength_1 : List UInt8 := dkwJ21_newLength_1 ++ []
def dkwJ21_newLength_0 : List UInt8 := [26, 27, 28, 184, 0, 194, 96, 62, 3, 29, 162, 0, 11, 29, 18, 200, 163, 0, 5, 29, 172, 26, 27]
abbrev dktJ21_newLength_0 : List UInt8 := dkwJ21_newLength_0 ++ dktJ21_newLength_1
theorem dksJ21_newLength_0 : cJ21_newLength.data.toList.drop 0 = dktJ21_newLength_0 := by decide +kernel
theorem dksJ21_newLength_1 : cJ21_newLength.data.toList.drop 23 = dktJ21_newLength_1 := dk_seg dksJ21_newLength_0 23 rfl rfl
theorem dJ21_newLength_0 : decode cJ21_newLength 0 = .ok (.iload_n 0, 1) := dk_26 (dk_at dksJ21_newLength_0 0 rfl rfl)
theorem dJ21_newLength_1 : decode cJ21_newLength 1 = .ok (.iload_n 1, 1) := dk_27 (dk_at dksJ21_newLength_0 1 rfl rfl)
theorem dJ21_newLength_2 : decode cJ21_newLength 2 = .ok (.iload_n 2, 1) := dk_28 (dk_at dksJ21_newLength_0 2 rfl rfl)
theorem dJ21_newLength_3 : decode cJ21_newLength 3 = .ok (.invokestatic 194, 3) := dk_184 0 194 (dk_at dksJ21_newLength_0 3 rfl rfl)
theorem dJ21_newLength_6 : decode cJ21_newLength 6 = .ok (.iadd, 1) := dk_96 (dk_at dksJ21_newLength_0 6 rfl rfl)
theorem dJ21_newLength_7 : decode cJ21_newLength 7 = .ok (.istore_n 3, 1) := dk_62 (dk_at dksJ21_newLength_0 7 rfl rfl)
theorem dJ21_newLength_8 : decode cJ21_newLength 8 = .ok (.iconst 0, 1) := dk_3 (dk_at dksJ21_newLength_0 8 rfl rfl)
theorem dJ21_newLength_9 : decode cJ21_newLength 9 = .ok (.iload_n 3, 1) := dk_29 (dk_at dksJ21_newLength_0 9 rfl rfl)
theorem dJ21_newLength_10 : decode cJ21_newLength 10 = .ok (.if_icmp .ge 11, 3) := dk_162 0 11 (dk_at dksJ21_newLength_0 10 rfl rfl)
theorem dJ21_newLength_13 : decode cJ21_newLength 13 = .ok (.iload_n 3, 1) := dk_29 (dk_at dksJ21_newLength_0 13 rfl rfl)
theorem dJ21_newLength_14 : decode cJ21_newLength 14 = .ok (.ldc 200, 2) := dk_18 200 (dk_at dksJ21_newLength_0 14 rfl rfl)
theorem dJ21_newLength_16 : decode cJ21_newLength 16 = .ok (.if_icmp .gt 5, 3) := dk_163 0 5 (dk_at dksJ21_newLength_0 16 rfl rfl)
theorem dJ21_newLength_19 : decode cJ21_newLength 19 = .ok (.iload_n 3, 1) := dk_29 (dk_at dksJ21_newLength_0 19 rfl rfl)
theorem dJ21_newLength_20 : decode cJ21_newLength 20 = .ok (.ireturn, 1) := dk_172 (dk_at dksJ21_newLength_0 20 rfl rfl)
theorem dJ21_newLength_21 : decode cJ21_newLength 21 = .ok (.iload_n 0, 1) := dk_26 (dk_at dksJ21_newLength_0 21 rfl rfl)
theorem dJ21_newLength_22 : decode cJ21_newLength 22 = .ok (.iload_n 1, 1) := dk_27 (dk_at dksJ21_newLength_0 22 rfl rfl)
theorem dJ21_newLength_23 : decode cJ21_newLength 23 = .ok (.invokestatic 201, 3) := dk_184 0 201 (dk_at dksJ21_newLength_1 0 rfl rfl)
theorem dJ21_newLength_26 : decode cJ21_newLength 26 = .ok (.ireturn, 1) := dk_172 (dk_at dksJ21_newLength_1 3 rfl rfl)
set_option maxHeartbeats 4000000 in
theorem m_newLength (l : Launch) (hl : l.stackTraces = false) (g : GE) (A : Nat → Prop) (h : AHT) (n m : Nat) (hn : n = 10 ∧ m = 15 ∨ n = 15 ∧ m = 22) : U_ l g A yJ21_newLength 2 0 0 [.int (nI n), .int (nI 1), .int (nI (n / 2))] h (fun v h' => v = some (.int (nI m)) ∧ h = h') noX := by
  refine U_.of (own := RJ21) (cc := cJ21_newLength) (L := 4) (ret := (some Jvm.ClassFile.FieldType.int)) hl rfl (plainFor_of_name (by decide)) ⟨by decide, by decide⟩ q580 q109 (by decide) (fun e => absurd e (by decide)) (Nat.le_of_ble_eq_true rfl) (fun κ cx => ?_)
  show V g A κ _ _ 0 0 h 0 [(0, .int (nI n)), (1, .int (nI 1)), (2, .int (nI (n / 2)))] []
  rcases hn with ⟨rfl, rfl⟩ | ⟨rfl, rfl⟩
  · refine V.iload_n cx dJ21_newLength_0 rfl 0 rfl ?_
    refine V.iload_n cx dJ21_newLength_1 rfl 1 rfl ?_
    refine V.iload_n cx dJ21_newLength_2 rfl 2 rfl ?_
    refine V.callS (As := [.int (nI 1), .int (nI (10 / 2))]) (rest := [.int (nI 10)]) cx (m_max l hl g A h _ _) q581 q582 (na := 2) rfl (by decide +kernel) (Nat.le_of_ble_eq_true rfl) (by decide) (by decide) (by decide) rfl dJ21_newLength_3 (fun _ _ _ hx => hx.elim) (fun v1 h2 hp => ?_)
    obtain ⟨rfl, rfl⟩ := hp
    show V g A κ _ _ 0 0 h 6 [(0, .int (nI 10)), (1, .int (nI 1)), (2, .int (nI (10 / 2)))] [.int (if nI 1 < nI (10 / 2) then nI (10 / 2) else nI 1), .int (nI 10)]
    refine V.iadd cx dJ21_newLength_6 ?_
    refine V.toi (y := nI 15) (by decide) ?_
    refine V.istore_n (lv' := [(3, .int (nI 15)), (0, .int (nI 10)), (1, .int (nI 1)), (2, .int (nI (10 / 2)))]) cx dJ21_newLength_7 rfl (by decide) rfl ?_
    refine V.iconst (v := (nI 0)) cx dJ21_newLength_8 (by decide) ?_
    refine V.iload_n cx dJ21_newLength_9 rfl 0 rfl ?_
    refine V.nicmp_ge (a := 0) (b := 15) (tgt := 21) cx (by decide) (by decide) dJ21_newLength_10 (by decide) (fun c_10 => ?_) (fun c_10 => ?_)
    · exact absurd c_10 (by decide)
    · refine V.iload_n cx dJ21_newLength_13 rfl 0 rfl ?_
      refine V.ldc cx q584 dJ21_newLength_14 ?_
      refine V.icmp_gt (tgt := 21) cx dJ21_newLength_16 (by decide) (fun c_16 => ?_) (fun c_16 => ?_)
      · exact absurd c_16 (by decide)
      · refine V.iload_n cx dJ21_newLength_19 rfl 0 rfl ?_
        exact V.ireturn (x := (nI 15)) cx rfl rfl ⟨rfl, rfl⟩ (by decide) (by decide) dJ21_newLength_20
  · refine V.iload_n cx dJ21_newLength_0 rfl 0 rfl ?_
    refine V.iload_n cx dJ21_newLength_1 rfl 1 rfl ?_
    refine V.iload_n cx dJ21_newLength_2 rfl 2 rfl ?_
    refine V.callS (As := [.int (nI 1), .int (nI (15 / 2))]) (rest := [.int (nI 15)]) cx (m_max l hl g A h _ _) q581 q582 (na := 2) rfl (by decide +kernel) (Nat.le_of_ble_eq_true rfl) (by decide) (by decide) (by decide) rfl dJ21_newLength_3 (fun _ _ _ hx => hx.elim) (fun v3 h4 hp => ?_)
    obtain ⟨rfl, rfl⟩ := hp
    show V g A κ _ _ 0 0 h 6 [(0, .int (nI 15)), (1, .int (nI 1)), (2, .int (nI (15 / 2)))] [.int (if nI 1 < nI (15 / 2) then nI (15 / 2) else nI 1), .int (nI 15)]
    refine V.iadd cx dJ21_newLength_6 ?_
    refine V.toi (y := nI 22) (by decide) ?_
    refine V.istore_n (lv' := [(3, .int (nI 22)), (0, .int (nI 15)), (1, .int (nI 1)), (2, .int (nI (15 / 2)))]) cx dJ21_newLength_7 rfl (by decide) rfl ?_
    refine V.iconst (v := (nI 0)) cx dJ21_newLength_8 (by decide) ?_
    refine V.iload_n cx dJ21_newLength_9 rfl 0 rfl ?_
    refine V.nicmp_ge (a := 0) (b := 22) (tgt := 21) cx (by decide) (by decide) dJ21_newLength_10 (by decide) (fun c_10 => ?_) (fun c_10 => ?_)
    · exact absurd c_10 (by decide)
    · refine V.iload_n cx dJ21_newLength_13 rfl 0 rfl ?_
      refine V.ldc cx q584 dJ21_newLength_14 ?_
      refine V.icmp_gt (tgt := 21) cx dJ21_newLength_16 (by decide) (fun c_16 => ?_) (fun c_16 => ?_)
      · exact absurd c_16 (by decide)
      · refine V.iload_n cx dJ21_newLength_19 rfl 0 rfl ?_
        exact V.ireturn (x := (nI 22)) cx rfl rfl ⟨rfl, rfl⟩ (by decide) (by decide) dJ21_newLength_20
abbrev cJ28_copyOf_2 : ByteArray := prog_52_method_120_code
def yJ28_copyOf_2 : MethodName := ⟨RJ28, "copyOf", "([Ljava/lang/Object;ILjava/lang/Class;)[Ljava/lang/Object;"⟩
def dkwJ28_copyOf_2_1 : List UInt8 := [78, 42, 3, 45, 3, 42, 190, 27, 184, 1, 48, 184, 0, 150, 45, 176]
abbrev dktJ28_copyOf_2_1 : List UInt8 := dkwJ28_copyOf_2_1 ++ []
def dkwJ28_copyOf_2_0 : List UInt8 := [44, 18, 110, 166, 0, 10, 27, 189, 0, 2, 167, 0, 14, 44, 182, 0, 90, 27, 184, 0, 95, 192, 0, 110]
abbrev dktJ28_copyOf_2_0 : List UInt8 := dkwJ28_copyOf_2_0 ++ dktJ28_copyOf_2_1
theorem dksJ28_copyOf_2_0 : cJ28_copyOf_2.data.toList.drop 0 = dktJ28_copyOf_2_0 := by decide +kernel
theorem dksJ28_copyOf_2_1 : cJ28_copyOf_2.data.toList.drop 24 = dktJ28_copyOf_2_1 := dk_seg dksJ28_copyOf_2_0 24 rfl rfl
theorem dJ28_copyOf_2_0 : decode cJ28_copyOf_2 0 = .ok (.aload_n 2, 1) := dk_44 (dk_at dksJ28_copyOf_2_0 0 rfl rfl)
theorem dJ28_copyOf_2_1 : decode cJ28_copyOf_2 1 = .ok (.ldc 110, 2) := dk_18 110 (dk_at dksJ28_copyOf_2_0 1 rfl rfl)
theorem dJ28_copyOf_2_3 : decode cJ28_copyOf_2 3 = .ok (.if_acmp .ne 10, 3) := dk_166 0 10 (dk_at dksJ28_copyOf_2_0 3 rfl rfl)
theorem dJ28_copyOf_2_6 : decode cJ28_copyOf_2 6 = .ok (.iload_n 1, 1) := dk_27 (dk_at dksJ28_copyOf_2_0 6 rfl rfl)
theorem dJ28_copyOf_2_7 : decode cJ28_copyOf_2 7 = .ok (.anewarray 2, 3) := dk_189 0 2 (dk_at dksJ28_copyOf_2_0 7 rfl rfl)
theorem dJ28_copyOf_2_10 : decode cJ28_copyOf_2 10 = .ok (.goto 14, 3) := dk_167 0 14 (dk_at dksJ28_copyOf_2_0 10 rfl rfl)
theorem dJ28_copyOf_2_13 : decode cJ28_copyOf_2 13 = .ok (.aload_n 2, 1) := dk_44 (dk_at dksJ28_copyOf_2_0 13 rfl rfl)
theorem dJ28_copyOf_2_14 : decode cJ28_copyOf_2 14 = .ok (.invokevirtual 90, 3) := dk_182 0 90 (dk_at dksJ28_copyOf_2_0 14 rfl rfl)
theorem dJ28_copyOf_2_17 : decode cJ28_copyOf_2 17 = .ok (.iload_n 1, 1) := dk_27 (dk_at dksJ28_copyOf_2_0 17 rfl rfl)
theorem dJ28_copyOf_2_18 : decode cJ28_copyOf_2 18 = .ok (.invokestatic 95, 3) := dk_184 0 95 (dk_at dksJ28_copyOf_2_0 18 rfl rfl)
theorem dJ28_copyOf_2_21 : decode cJ28_copyOf_2 21 = .ok (.checkcast 110, 3) := dk_192 0 110 (dk_at dksJ28_copyOf_2_0 21 rfl rfl)
theorem dJ28_copyOf_2_24 : decode cJ28_copyOf_2 24 = .ok (.astore_n 3, 1) := dk_78 (dk_at dksJ28_copyOf_2_1 0 rfl rfl)
theorem dJ28_copyOf_2_25 : decode cJ28_copyOf_2 25 = .ok (.aload_n 0, 1) := dk_42 (dk_at dksJ28_copyOf_2_1 1 rfl rfl)
theorem dJ28_copyOf_2_26 : decode cJ28_copyOf_2 26 = .ok (.iconst 0, 1) := dk_3 (dk_at dksJ28_copyOf_2_1 2 rfl rfl)
theorem dJ28_copyOf_2_27 : decode cJ28_copyOf_2 27 = .ok (.aload_n 3, 1) := dk_45 (dk_at dksJ28_copyOf_2_1 3 rfl rfl)
theorem dJ28_copyOf_2_28 : decode cJ28_copyOf_2 28 = .ok (.iconst 0, 1) := dk_3 (dk_at dksJ28_copyOf_2_1 4 rfl rfl)
theorem dJ28_copyOf_2_29 : decode cJ28_copyOf_2 29 = .ok (.aload_n 0, 1) := dk_42 (dk_at dksJ28_copyOf_2_1 5 rfl rfl)
theorem dJ28_copyOf_2_30 : decode cJ28_copyOf_2 30 = .ok (.arraylength, 1) := dk_190 (dk_at dksJ28_copyOf_2_1 6 rfl rfl)
theorem dJ28_copyOf_2_31 : decode cJ28_copyOf_2 31 = .ok (.iload_n 1, 1) := dk_27 (dk_at dksJ28_copyOf_2_1 7 rfl rfl)
theorem dJ28_copyOf_2_32 : decode cJ28_copyOf_2 32 = .ok (.invokestatic 304, 3) := dk_184 1 48 (dk_at dksJ28_copyOf_2_1 8 rfl rfl)
theorem dJ28_copyOf_2_35 : decode cJ28_copyOf_2 35 = .ok (.invokestatic 150, 3) := dk_184 0 150 (dk_at dksJ28_copyOf_2_1 11 rfl rfl)
theorem dJ28_copyOf_2_38 : decode cJ28_copyOf_2 38 = .ok (.aload_n 3, 1) := dk_45 (dk_at dksJ28_copyOf_2_1 14 rfl rfl)
theorem dJ28_copyOf_2_39 : decode cJ28_copyOf_2 39 = .ok (.areturn, 1) := dk_176 (dk_at dksJ28_copyOf_2_1 15 rfl rfl)
set_option maxHeartbeats 4000000 in
theorem m_copyOf2 (l : Launch) (hl : l.stackTraces = false) (g : GE) (A : Nat → Prop) (h : AHT) (a n m : Nat) (f : Nat → Option Nat) (hm : n ≤ m) (hm2 : m < 2 ^ 20) (ha : h a = some (aQ g 5 n f)) (hel : ∀ i, i < n → ∀ y : Nat, f i = some y → ∃ C : String, Rv g h y C ∧ Cond.castable C "java/lang/Object" ∈ lw_tbl) : U_ l g A yJ28_copyOf_2 2 1 m [.ref a, .int (nI m), .ref (g.ad 4 4)] h (fun v h' => ∃ q f', v = some (.ref q) ∧ h q = none ∧ h' q = some (aQ g 5 m f') ∧ (∀ j, j < n → f' j = f j) ∧ Ext h h') noX := by
  refine U_.of (own := RJ28) (cc := cJ28_copyOf_2) (L := 4) (ret := (some (Jvm.ClassFile.FieldType.array (Jvm.ClassFile.FieldType.object "java/lang/Object")))) hl rfl (plainFor_of_name (by decide)) ⟨by decide, by decide⟩ q628 q118 (by decide) (fun e => absurd e (by decide)) (Nat.le_of_ble_eq_true rfl) (fun κ cx => ?_)
  show V g A κ _ _ 0 0 h 0 [(0, .ref a), (1, .int (nI m)), (2, .ref (g.ad 4 4))] []
  refine V.aload_n cx dJ28_copyOf_2_0 rfl 2 rfl ?_
  refine V.ldcM cx q629 dJ28_copyOf_2_1 ?_
  refine V.acmp_ne (rx := (some (g.ad 4 4))) (ry := (some (g.ad 4 4))) (tgt := 13) cx dJ28_copyOf_2_3 (by decide) (fun c_3 => ?_) (fun c_3 => ?_)
  · exact absurd rfl c_3
  · refine V.iload_n cx dJ28_copyOf_2_6 rfl 1 rfl ?_
    refine V.newq (t0 := 5) (N := m) cx q630 (by decide) rfl rfl (by omega) (by omega) (by omega) dJ28_copyOf_2_7 (fun q1 hn_q1 => ?_)
    refine V.goto (tgt := 24) cx dJ28_copyOf_2_10 (by decide) ?_
    show V g A κ _ _ 1 (0 + m) (up h q1 (aQ g 5 m (fun _ => none))) 24 [(0, .ref a), (1, .int (nI m)), (2, .ref (g.ad 4 4))] [.ref q1]
    refine V.astore_n (lv' := [(3, .ref q1), (0, .ref a), (1, .int (nI m)), (2, .ref (g.ad 4 4))]) cx dJ28_copyOf_2_24 rfl (by decide) rfl ?_
    refine V.aload_n cx dJ28_copyOf_2_25 rfl 1 rfl ?_
    refine V.iconst (v := (nI 0)) cx dJ28_copyOf_2_26 (by decide) ?_
    refine V.aload_n cx dJ28_copyOf_2_27 rfl 0 rfl ?_
    refine V.iconst (v := (nI 0)) cx dJ28_copyOf_2_28 (by decide) ?_
    refine V.aload_n cx dJ28_copyOf_2_29 rfl 1 rfl ?_
    refine V.alen (t0 := 5) cx ((up_n (ne_of ha hn_q1)).trans ha) rfl dJ28_copyOf_2_30 ?_
    show V g A κ _ _ 1 (0 + m) (up h q1 (aQ g 5 m (fun _ => none))) 31 [(3, .ref q1), (0, .ref a), (1, .int (nI m)), (2, .ref (g.ad 4 4))] [.int (nI n), .int (nI 0), .ref q1, .int (nI 0), .ref a]
    refine V.iload_n cx dJ28_copyOf_2_31 rfl 2 rfl ?_
    refine V.callS (As := [.int (nI n), .int (nI m)]) (rest := [.int (nI 0), .ref q1, .int (nI 0), .ref a]) cx (m_min l hl g A _ _ _) q631 q632 (na := 2) rfl (by decide +kernel) (Nat.le_of_ble_eq_true rfl) (by decide) (by omega) (by omega) rfl dJ28_copyOf_2_32 (fun _ _ _ hx => hx.elim) (fun v2 h3 hp => ?_)
    obtain ⟨rfl, rfl⟩ := hp
    show V g A κ _ _ 1 (0 + m) (up h q1 (aQ g 5 m (fun _ => none))) 35 [(3, .ref q1), (0, .ref a), (1, .int (nI m)), (2, .ref (g.ad 4 4))] [.int (if nI m < nI n then nI m else nI n), .int (nI 0), .ref q1, .int (nI 0), .ref a]
    refine V.toi (y := nI n) (by rw [if_neg (fun e => absurd ((nI_ltI (by omega) (by omega)).mp e) (by omega))]) ?_
    refine V.copyq (sp := 0) (dp := 0) (n9 := n) (t0 := 5) (t1 := 5) cx q634 q636 q635 q119 ((up_n (ne_of ha hn_q1)).trans ha) up_s rfl rfl rfl rfl rfl (by omega) (by omega) (by omega) (by omega) (fun i hi y hy => by rw [Nat.zero_add] at hy; obtain ⟨C, e1, e2⟩ := hel i hi y hy; exact ⟨C, e1.new hn_q1, e2⟩) (by decide) (by decide +kernel) dJ28_copyOf_2_35 ?_
    refine V.aload_n cx dJ28_copyOf_2_38 rfl 0 rfl ?_
    exact V.areturn cx rfl (Or.inr ⟨_, rfl⟩) ⟨q1, _, rfl, hn_q1, up_s, fun j hj => by rw [pk_cpy_in (Nat.zero_le _) (by omega)]; simp, Off.ext ((Off.rf.new hn_q1).upn hn_q1)⟩ (by omega) (by omega) dJ28_copyOf_2_39
abbrev cJ28_copyOf : ByteArray := prog_52_method_119_code
def yJ28_copyOf : MethodName := ⟨RJ28, "copyOf", "([Ljava/lang/Object;I)[Ljava/lang/Object;"⟩
def dkwJ28_copyOf_0 : List UInt8 := [42, 27, 42, 182, 0, 86, 184, 1, 44, 176]
abbrev dktJ28_copyOf_0 : List UInt8 := dkwJ28_copyOf_0 ++ []
theorem dksJ28_copyOf_0 : cJ28_copyOf.data.toList.drop 0 = dktJ28_copyOf_0 := by decide +kernel
theorem dJ28_copyOf_0 : decode cJ28_copyOf 0 = .ok (.aload_n 0, 1) := dk_42 (dk_at dksJ28_copyOf_0 0 rfl rfl)
theorem dJ28_copyOf_1 : decode cJ28_copyOf 1 = .ok (.iload_n 1, 1) := dk_27 (dk_at dksJ28_copyOf_0 1 rfl rfl)
theorem dJ28_copyOf_2 : decode cJ28_copyOf 2 = .ok (.aload_n 0, 1) := dk_42 (dk_at dksJ28_copyOf_0 2 rfl rfl)
theorem dJ28_copyOf_3 : decode cJ28_copyOf 3 = .ok (.invokevirtual 86, 3) := dk_182 0 86 (dk_at dksJ28_copyOf_0 3 rfl rfl)
theorem dJ28_copyOf_6 : decode cJ28_copyOf 6 = .ok (.invokestatic 300, 3) := dk_184 1 44 (dk_at dksJ28_copyOf_0 6 rfl rfl)
theorem dJ28_copyOf_9 : decode cJ28_copyOf 9 = .ok (.areturn, 1) := dk_176 (dk_at dksJ28_copyOf_0 9 rfl rfl)
set_option maxHeartbeats 4000000 in
theorem m_copyOf (l : Launch) (hl : l.stackTraces = false) (g : GE) (A : Nat → Prop) (h : AHT) (a n m : Nat) (f : Nat → Option Nat) (hm : n ≤ m) (hm2 : m < 2 ^ 20) (ha : h a = some (aQ g 5 n f)) (hel : ∀ i, i < n → ∀ y : Nat, f i = some y → ∃ C : String, Rv g h y C ∧ Cond.castable C "java/lang/Object" ∈ lw_tbl) : U_ l g A yJ28_copyOf 3 1 m [.ref a, .int (nI m)] h (fun v h' => ∃ q f', v = some (.ref q) ∧ h q = none ∧ h' q = some (aQ g 5 m f') ∧ (∀ j, j < n → f' j = f j) ∧ Ext h h') noX := by
  refine U_.of (own := RJ28) (cc := cJ28_copyOf) (L := 2) (ret := (some (Jvm.ClassFile.FieldType.array (Jvm.ClassFile.FieldType.object "java/lang/Object")))) hl rfl (plainFor_of_name (by decide)) ⟨by decide, by decide⟩ q590 q118 (by decide) (fun e => absurd e (by decide)) (Nat.le_of_ble_eq_true rfl) (fun κ cx => ?_)
  show V g A κ _ _ 0 0 h 0 [(0, .ref a), (1, .int (nI m))] []
  refine V.aload_n cx dJ28_copyOf_0 rfl 0 rfl ?_
  refine V.iload_n cx dJ28_copyOf_1 rfl 1 rfl ?_
  refine V.aload_n cx dJ28_copyOf_2 rfl 0 rfl ?_
  refine V.getC cx ha q591 q2986 q592 q625 (by decide) (Nat.le_of_ble_eq_true rfl) dJ28_copyOf_3 ?_
  refine V.callS (As := [.ref a, .int (nI m), .ref (g.ad 4 4)]) (rest := []) cx (m_copyOf2 l hl g A h a n m f hm hm2 ha hel) q626 q627 (na := 3) rfl (by decide +kernel) (Nat.le_of_ble_eq_true rfl) (by decide) (by omega) (by omega) rfl dJ28_copyOf_6 (fun _ _ _ hx => hx.elim) (fun v1 h2 hp => ?_)
  obtain ⟨q, f', rfl, p1, p2, p3, p4⟩ := hp
  show V g A κ _ _ 1 (0 + m) h2 9 [(0, .ref a), (1, .int (nI m))] [.ref q]
  exact V.areturn cx rfl (Or.inr ⟨_, rfl⟩) ⟨q, f', rfl, p1, p2, p3, p4⟩ (by omega) (by omega) dJ28_copyOf_9
abbrev cJ33_grow_2 : ByteArray := prog_50_method_6_code
def yJ33_grow_2 : MethodName := ⟨RJ33, "grow", "(I)[Ljava/lang/Object;"⟩
def dkwJ33_grow_2_2 : List UInt8 := [27, 184, 0, 79, 189, 0, 7, 90, 181, 0, 9, 176]
abbrev dktJ33_grow_2_2 : List UInt8 := dkwJ33_grow_2_2 ++ []
def dkwJ33_grow_2_1 : List UInt8 := [28, 4, 122, 184, 0, 73, 62, 42, 42, 180, 0, 9, 29, 184, 0, 66, 90, 181, 0, 9, 176, 42, 16, 10]
abbrev dktJ33_grow_2_1 : List UInt8 := dkwJ33_grow_2_1 ++ dktJ33_grow_2_2
def dkwJ33_grow_2_0 : List UInt8 := [42, 180, 0, 9, 190, 61, 28, 157, 0, 13, 42, 180, 0, 9, 178, 0, 39, 165, 0, 28, 28, 27, 28, 100]
abbrev dktJ33_grow_2_0 : List UInt8 := dkwJ33_grow_2_0 ++ dktJ33_grow_2_1
theorem dksJ33_grow_2_0 : cJ33_grow_2.data.toList.drop 0 = dktJ33_grow_2_0 := by decide +kernel
theorem dksJ33_grow_2_1 : cJ33_grow_2.data.toList.drop 24 = dktJ33_grow_2_1 := dk_seg dksJ33_grow_2_0 24 rfl rfl
theorem dksJ33_grow_2_2 : cJ33_grow_2.data.toList.drop 48 = dktJ33_grow_2_2 := dk_seg dksJ33_grow_2_1 24 rfl rfl
theorem dJ33_grow_2_0 : decode cJ33_grow_2 0 = .ok (.aload_n 0, 1) := dk_42 (dk_at dksJ33_grow_2_0 0 rfl rfl)
theorem dJ33_grow_2_1 : decode cJ33_grow_2 1 = .ok (.getfield 9, 3) := dk_180 0 9 (dk_at dksJ33_grow_2_0 1 rfl rfl)
theorem dJ33_grow_2_4 : decode cJ33_grow_2 4 = .ok (.arraylength, 1) := dk_190 (dk_at dksJ33_grow_2_0 4 rfl rfl)
theorem dJ33_grow_2_5 : decode cJ33_grow_2 5 = .ok (.istore_n 2, 1) := dk_61 (dk_at dksJ33_grow_2_0 5 rfl rfl)
theorem dJ33_grow_2_6 : decode cJ33_grow_2 6 = .ok (.iload_n 2, 1) := dk_28 (dk_at dksJ33_grow_2_0 6 rfl rfl)
theorem dJ33_grow_2_7 : decode cJ33_grow_2 7 = .ok (.ifCond .gt 13, 3) := dk_157 0 13 (dk_at dksJ33_grow_2_0 7 rfl rfl)
theorem dJ33_grow_2_10 : decode cJ33_grow_2 10 = .ok (.aload_n 0, 1) := dk_42 (dk_at dksJ33_grow_2_0 10 rfl rfl)
theorem dJ33_grow_2_11 : decode cJ33_grow_2 11 = .ok (.getfield 9, 3) := dk_180 0 9 (dk_at dksJ33_grow_2_0 11 rfl rfl)
theorem dJ33_grow_2_14 : decode cJ33_grow_2 14 = .ok (.getstatic 39, 3) := dk_178 0 39 (dk_at dksJ33_grow_2_0 14 rfl rfl)
theorem dJ33_grow_2_17 : decode cJ33_grow_2 17 = .ok (.if_acmp .eq 28, 3) := dk_165 0 28 (dk_at dksJ33_grow_2_0 17 rfl rfl)
theorem dJ33_grow_2_20 : decode cJ33_grow_2 20 = .ok (.iload_n 2, 1) := dk_28 (dk_at dksJ33_grow_2_0 20 rfl rfl)
theorem dJ33_grow_2_21 : decode cJ33_grow_2 21 = .ok (.iload_n 1, 1) := dk_27 (dk_at dksJ33_grow_2_0 21 rfl rfl)
theorem dJ33_grow_2_22 : decode cJ33_grow_2 22 = .ok (.iload_n 2, 1) := dk_28 (dk_at dksJ33_grow_2_0 22 rfl rfl)
theorem dJ33_grow_2_23 : decode cJ33_grow_2 23 = .ok (.isub, 1) := dk_100 (dk_at dksJ33_grow_2_0 23 rfl rfl)
theorem dJ33_grow_2_24 : decode cJ33_grow_2 24 = .ok (.iload_n 2, 1) := dk_28 (dk_at dksJ33_grow_2_1 0 rfl rfl)
theorem dJ33_grow_2_25 : decode cJ33_grow_2 25 = .ok (.iconst 1, 1) := dk_4 (dk_at dksJ33_grow_2_1 1 rfl rfl)
theorem dJ33_grow_2_26 : decode cJ33_grow_2 26 = .ok (.ishr, 1) := dk_122 (dk_at dksJ33_grow_2_1 2 rfl rfl)
theorem dJ33_grow_2_27 : decode cJ33_grow_2 27 = .ok (.invokestatic 73, 3) := dk_184 0 73 (dk_at dksJ33_grow_2_1 3 rfl rfl)
theorem dJ33_grow_2_30 : decode cJ33_grow_2 30 = .ok (.istore_n 3, 1) := dk_62 (dk_at dksJ33_grow_2_1 6 rfl rfl)
theorem dJ33_grow_2_31 : decode cJ33_grow_2 31 = .ok (.aload_n 0, 1) := dk_42 (dk_at dksJ33_grow_2_1 7 rfl rfl)
theorem dJ33_grow_2_32 : decode cJ33_grow_2 32 = .ok (.aload_n 0, 1) := dk_42 (dk_at dksJ33_grow_2_1 8 rfl rfl)
theorem dJ33_grow_2_33 : decode cJ33_grow_2 33 = .ok (.getfield 9, 3) := dk_180 0 9 (dk_at dksJ33_grow_2_1 9 rfl rfl)
theorem dJ33_grow_2_36 : decode cJ33_grow_2 36 = .ok (.iload_n 3, 1) := dk_29 (dk_at dksJ33_grow_2_1 12 rfl rfl)
theorem dJ33_grow_2_37 : decode cJ33_grow_2 37 = .ok (.invokestatic 66, 3) := dk_184 0 66 (dk_at dksJ33_grow_2_1 13 rfl rfl)
theorem dJ33_grow_2_40 : decode cJ33_grow_2 40 = .ok (.dup_x1, 1) := dk_90 (dk_at dksJ33_grow_2_1 16 rfl rfl)
theorem dJ33_grow_2_41 : decode cJ33_grow_2 41 = .ok (.putfield 9, 3) := dk_181 0 9 (dk_at dksJ33_grow_2_1 17 rfl rfl)
theorem dJ33_grow_2_44 : decode cJ33_grow_2 44 = .ok (.areturn, 1) := dk_176 (dk_at dksJ33_grow_2_1 20 rfl rfl)
theorem dJ33_grow_2_45 : decode cJ33_grow_2 45 = .ok (.aload_n 0, 1) := dk_42 (dk_at dksJ33_grow_2_1 21 rfl rfl)
theorem dJ33_grow_2_46 : decode cJ33_grow_2 46 = .ok (.bipush 10, 2) := dk_16 10 (dk_at dksJ33_grow_2_1 22 rfl rfl)
theorem dJ33_grow_2_48 : decode cJ33_grow_2 48 = .ok (.iload_n 1, 1) := dk_27 (dk_at dksJ33_grow_2_2 0 rfl rfl)
theorem dJ33_grow_2_49 : decode cJ33_grow_2 49 = .ok (.invokestatic 79, 3) := dk_184 0 79 (dk_at dksJ33_grow_2_2 1 rfl rfl)
theorem dJ33_grow_2_52 : decode cJ33_grow_2 52 = .ok (.anewarray 7, 3) := dk_189 0 7 (dk_at dksJ33_grow_2_2 4 rfl rfl)
theorem dJ33_grow_2_55 : decode cJ33_grow_2 55 = .ok (.dup_x1, 1) := dk_90 (dk_at dksJ33_grow_2_2 7 rfl rfl)
theorem dJ33_grow_2_56 : decode cJ33_grow_2 56 = .ok (.putfield 9, 3) := dk_181 0 9 (dk_at dksJ33_grow_2_2 8 rfl rfl)
theorem dJ33_grow_2_59 : decode cJ33_grow_2 59 = .ok (.areturn, 1) := dk_176 (dk_at dksJ33_grow_2_2 11 rfl rfl)
set_option maxHeartbeats 4000000 in
theorem m_alGrow2 (l : Launch) (hl : l.stackTraces = false) (g : GE) (A : Nat → Prop) (h : AHT) (al dt : Nat) (xs : List Nat) (md : Int32) (f : Nat → Option Nat) (e1 : h al = some (ob 20 [.int md, .ref dt, .int (nI xs.length)])) (e2 : ∀ j, j < xs.length → f j = xs[j]?) (e4 : (xs = [] ∧ dt = g.ad 4 3) ∨ (xs ≠ [] ∧ h dt = some (aQ g 5 (capOf xs.length) f))) (hfull : xs.length = 0 ∨ xs.length = 10 ∨ xs.length = 15) (C : String) (hC : Cond.castable C "java/lang/Object" ∈ lw_tbl) (hel : ∀ y ∈ xs, Rv g h y C) : U_ l g A yJ33_grow_2 4 (grC xs.length) (grS xs.length) [.ref al, .int (nI (xs.length + 1))] h (fun v h' => ∃ q f', v = some (.ref q) ∧ h q = none ∧ h' al = some (ob 20 [.int md, .ref q, .int (nI xs.length)]) ∧ h' q = some (aQ g 5 (capOf (xs.length + 1)) f') ∧ (∀ j, j < xs.length → f' j = xs[j]?) ∧ Off [al] h h') noX := by
  refine U_.of (own := RJ33) (cc := cJ33_grow_2) (L := 4) (ret := (some (Jvm.ClassFile.FieldType.array (Jvm.ClassFile.FieldType.object "java/lang/Object")))) hl rfl (plainFor_of_name (by decide)) ⟨by decide, by decide⟩ q577 q126 (by decide) (fun e => absurd e (by decide)) (Nat.le_of_ble_eq_true rfl) (fun κ cx => ?_)
  show V g A κ _ _ 0 0 h 0 [(0, .ref al), (1, .int (nI (xs.length + 1)))] []
  rcases e4 with ⟨rfl, rfl⟩ | ⟨e4, e5⟩
  · show V g A κ _ _ 0 0 h 0 [(0, .ref al), (1, .int (nI 1))] []
    refine V.aload_n cx dJ33_grow_2_0 rfl 0 rfl ?_
    refine V.get cx kJ33 e1 1 (by decide) q302 rfl rfl dJ33_grow_2_1 ?_
    refine V.alenR cx cx.gok.2.2.2.2.2.1 dJ33_grow_2_4 ?_
    refine V.istore_n (lv' := [(2, .int (nI 0)), (0, .ref al), (1, .int (nI 1))]) cx dJ33_grow_2_5 rfl (by decide) rfl ?_
    refine V.iload_n cx dJ33_grow_2_6 rfl 0 rfl ?_
    refine V.nif_gt (a := 0) (tgt := 20) cx (by decide) dJ33_grow_2_7 (by decide) (fun c_7 => ?_) (fun c_7 => ?_)
    · exact absurd c_7 (by decide)
    · refine V.aload_n cx dJ33_grow_2_10 rfl 1 rfl ?_
      refine V.get cx kJ33 e1 1 (by decide) q302 rfl rfl dJ33_grow_2_11 ?_
      refine V.gets (C := "java/util/ArrayList") (v := .ref (g.ad 4 3)) cx (by simp [zs]) q300 rfl dJ33_grow_2_14 ?_
      refine V.acmp_eq (rx := (some (g.ad 4 3))) (ry := (some (g.ad 4 3))) (tgt := 45) cx dJ33_grow_2_17 (by decide) (fun c_17 => ?_) (fun c_17 => ?_)
      · refine V.aload_n cx dJ33_grow_2_45 rfl 1 rfl ?_
        refine V.bipush (v := (nI 10)) cx dJ33_grow_2_46 (by decide) ?_
        refine V.iload_n cx dJ33_grow_2_48 rfl 2 rfl ?_
        refine V.callS (As := [.int (nI 10), .int (nI 1)]) (rest := [.ref al]) cx (m_max l hl g A h _ _) q637 q582 (na := 2) rfl (by decide +kernel) (Nat.le_of_ble_eq_true rfl) (by decide) (by decide) (by decide) rfl dJ33_grow_2_49 (fun _ _ _ hx => hx.elim) (fun v1 h2 hp => ?_)
        obtain ⟨rfl, rfl⟩ := hp
        show V g A κ _ _ 0 0 h 52 [(2, .int (nI 0)), (0, .ref al), (1, .int (nI 1))] [.int (if nI 10 < nI 1 then nI 1 else nI 10), .ref al]
        refine V.toi (y := nI 10) (by decide) ?_
        refine V.newq (t0 := 5) (N := 10) cx q638 (by decide) rfl rfl (by decide) (by decide) (by decide) dJ33_grow_2_52 (fun q3 hn_q3 => ?_)
        refine V.dup_x1 cx dJ33_grow_2_55 rfl rfl ?_
        refine V.put (ty := tyJ33 1) cx kJ33 ((up_n (ne_of e1 hn_q3)).trans e1) 1 (by decide) rfl (tyJ33_ok 1 (by decide)) rfl rfl (Nat.le_of_ble_eq_true rfl) q302 rfl dJ33_grow_2_56 ?_
        show V g A κ _ _ 1 10 (up (up h q3 (aQ g 5 10 (fun _ => none))) al (ob 20 [.int md, .ref q3, .int (nI 0)])) 59 [(2, .int (nI 0)), (0, .ref al), (1, .int (nI 1))] [.ref q3]
        exact V.areturn cx rfl (Or.inr ⟨_, rfl⟩) ⟨q3, fun _ => none, rfl, hn_q3, up_s, (up_n (Ne.symm (ne_of e1 hn_q3))).trans up_s, fun j hj => absurd hj (Nat.not_lt_zero _), (Off.rf.new hn_q3).put List.mem_cons_self⟩ (by decide) (by decide) dJ33_grow_2_59
      · exact absurd rfl c_17
  · have hlen : xs.length = 10 ∨ xs.length = 15 := by rcases hfull with z | z | z; exact absurd (List.length_eq_zero_iff.mp z) e4; exact Or.inl z; exact Or.inr z
    rcases hlen with hlen | hlen
    · have e5' : h dt = some (aQ g 5 10 f) := by rw [hlen] at e5; exact e5
      rw [hlen] at e1
      rw [show nI (xs.length + 1) = nI 11 from by rw [hlen]]
      refine V.aload_n cx dJ33_grow_2_0 rfl 0 rfl ?_
      refine V.get cx kJ33 e1 1 (by decide) q302 rfl rfl dJ33_grow_2_1 ?_
      refine V.alen (t0 := 5) cx e5' rfl dJ33_grow_2_4 ?_
      show V g A κ _ _ 0 0 h 5 [(0, .ref al), (1, .int (nI 11))] [.int (nI 10)]
      refine V.istore_n (lv' := [(2, .int (nI 10)), (0, .ref al), (1, .int (nI 11))]) cx dJ33_grow_2_5 rfl (by decide) rfl ?_
      refine V.iload_n cx dJ33_grow_2_6 rfl 0 rfl ?_
      refine V.nif_gt (a := 10) (tgt := 20) cx (by decide) dJ33_grow_2_7 (by decide) (fun c_7 => ?_) (fun c_7 => ?_)
      · refine V.iload_n cx dJ33_grow_2_20 rfl 0 rfl ?_
        refine V.iload_n cx dJ33_grow_2_21 rfl 2 rfl ?_
        refine V.iload_n cx dJ33_grow_2_22 rfl 0 rfl ?_
        refine V.isub cx dJ33_grow_2_23 ?_
        refine V.toi (pk_sub (a := 11) (b := 10) (by decide)) ?_
        refine V.iload_n cx dJ33_grow_2_24 rfl 0 rfl ?_
        refine V.iconst (v := (nI 1)) cx dJ33_grow_2_25 (by decide) ?_
        refine V.ishr cx dJ33_grow_2_26 ?_
        show V g A κ _ _ 0 0 h 27 [(2, .int (nI 10)), (0, .ref al), (1, .int (nI 11))] [.int (nI (10 / 2)), .int (nI 1), .int (nI 10)]
        refine V.callS (As := [.int (nI 10), .int (nI 1), .int (nI (10 / 2))]) (rest := []) cx (m_newLength l hl g A h 10 15 (by decide)) q578 q579 (na := 3) rfl (by decide +kernel) (Nat.le_of_ble_eq_true rfl) (by decide) (by rw [hlen]; decide) (by rw [hlen]; decide) rfl dJ33_grow_2_27 (fun _ _ _ hx => hx.elim) (fun v4 h5 hp => ?_)
        obtain ⟨rfl, rfl⟩ := hp
        show V g A κ _ _ 0 0 h 30 [(2, .int (nI 10)), (0, .ref al), (1, .int (nI 11))] [.int (nI 15)]
        refine V.istore_n (lv' := [(3, .int (nI 15)), (2, .int (nI 10)), (0, .ref al), (1, .int (nI 11))]) cx dJ33_grow_2_30 rfl (by decide) rfl ?_
        refine V.aload_n cx dJ33_grow_2_31 rfl 2 rfl ?_
        refine V.aload_n cx dJ33_grow_2_32 rfl 2 rfl ?_
        refine V.get cx kJ33 e1 1 (by decide) q302 rfl rfl dJ33_grow_2_33 ?_
        refine V.iload_n cx dJ33_grow_2_36 rfl 0 rfl ?_
        refine V.callS (As := [.ref dt, .int (nI 15)]) (rest := [.ref al]) cx (m_copyOf l hl g A h dt 10 15 f (by decide) (by decide) e5' (fun i hi y hy => ⟨C, hel y (by rw [e2 i (by omega)] at hy; exact List.mem_of_getElem? hy), hC⟩)) q588 q589 (na := 2) rfl (by decide +kernel) (Nat.le_of_ble_eq_true rfl) (by decide) (by rw [hlen]; decide) (by rw [hlen]; decide) rfl dJ33_grow_2_37 (fun _ _ _ hx => hx.elim) (fun v6 h7 hp => ?_)
        obtain ⟨q, f', rfl, p1, p2, p3, p4⟩ := hp
        show V g A κ _ _ 1 15 h7 40 [(3, .int (nI 15)), (2, .int (nI 10)), (0, .ref al), (1, .int (nI 11))] [.ref q, .ref al]
        refine V.dup_x1 cx dJ33_grow_2_40 rfl rfl ?_
        refine V.put (ty := tyJ33 1) cx kJ33 (p4 _ _ e1) 1 (by decide) rfl (tyJ33_ok 1 (by decide)) rfl rfl (Nat.le_of_ble_eq_true rfl) q302 rfl dJ33_grow_2_41 ?_
        show V g A κ _ _ 1 15 (up h7 al (ob 20 [.int md, .ref q, .int (nI 10)])) 44 [(3, .int (nI 15)), (2, .int (nI 10)), (0, .ref al), (1, .int (nI 11))] [.ref q]
        exact V.areturn cx rfl (Or.inr ⟨_, rfl⟩) ⟨q, f', rfl, p1, by rw [hlen]; exact up_s, by rw [hlen]; exact (up_n (Ne.symm (ne_of e1 p1))).trans p2, fun j hj => (p3 j (by omega)).trans (e2 j hj), (Ext.off p4).put List.mem_cons_self⟩ (by rw [hlen]; decide) (by rw [hlen]; decide) dJ33_grow_2_44
      · exact absurd c_7 (by decide)
    · have e5' : h dt = some (aQ g 5 15 f) := by rw [hlen] at e5; exact e5
      rw [hlen] at e1
      rw [show nI (xs.length + 1) = nI 16 from by rw [hlen]]
      refine V.aload_n cx dJ33_grow_2_0 rfl 0 rfl ?_
      refine V.get cx kJ33 e1 1 (by decide) q302 rfl rfl dJ33_grow_2_1 ?_
      refine V.alen (t0 := 5) cx e5' rfl dJ33_grow_2_4 ?_
      show V g A κ _ _ 0 0 h 5 [(0, .ref al), (1, .int (nI 16))] [.int (nI 15)]
      refine V.istore_n (lv' := [(2, .int (nI 15)), (0, .ref al), (1, .int (nI 16))]) cx dJ33_grow_2_5 rfl (by decide) rfl ?_
      refine V.iload_n cx dJ33_grow_2_6 rfl 0 rfl ?_
      refine V.nif_gt (a := 15) (tgt := 20) cx (by decide) dJ33_grow_2_7 (by decide) (fun c_7 => ?_) (fun c_7 => ?_)
      · refine V.iload_n cx dJ33_grow_2_20 rfl 0 rfl ?_
        refine V.iload_n cx dJ33_grow_2_21 rfl 2 rfl ?_
        refine V.iload_n cx dJ33_grow_2_22 rfl 0 rfl ?_
        refine V.isub cx dJ33_grow_2_23 ?_
        refine V.toi (pk_sub (a := 16) (b := 15) (by decide)) ?_
        refine V.iload_n cx dJ33_grow_2_24 rfl 0 rfl ?_
        refine V.iconst (v := (nI 1)) cx dJ33_grow_2_25 (by decide) ?_
        refine V.ishr cx dJ33_grow_2_26 ?_
        show V g A κ _ _ 0 0 h 27 [(2, .int (nI 15)), (0, .ref al), (1, .int (nI 16))] [.int (nI (15 / 2)), .int (nI 1), .int (nI 15)]
        refine V.callS (As := [.int (nI 15), .int (nI 1), .int (nI (15 / 2))]) (rest := []) cx (m_newLength l hl g A h 15 22 (by decide)) q578 q579 (na := 3) rfl (by decide +kernel) (Nat.le_of_ble_eq_true rfl) (by decide) (by rw [hlen]; decide) (by rw [hlen]; decide) rfl dJ33_grow_2_27 (fun _ _ _ hx => hx.elim) (fun v8 h9 hp => ?_)
        obtain ⟨rfl, rfl⟩ := hp
        show V g A κ _ _ 0 0 h 30 [(2, .int (nI 15)), (0, .ref al), (1, .int (nI 16))] [.int (nI 22)]
        refine V.istore_n (lv' := [(3, .int (nI 22)), (2, .int (nI 15)), (0, .ref al), (1, .int (nI 16))]) cx dJ33_grow_2_30 rfl (by decide) rfl ?_
        refine V.aload_n cx dJ33_grow_2_31 rfl 2 rfl ?_
        refine V.aload_n cx dJ33_grow_2_32 rfl 2 rfl ?_
        refine V.get cx kJ33 e1 1 (by decide) q302 rfl rfl dJ33_grow_2_33 ?_
        refine V.iload_n cx dJ33_grow_2_36 rfl 0 rfl ?_
        refine V.callS (As := [.ref dt, .int (nI 22)]) (rest := [.ref al]) cx (m_copyOf l hl g A h dt 15 22 f (by decide) (by decide) e5' (fun i hi y hy => ⟨C, hel y (by rw [e2 i (by omega)] at hy; exact List.mem_of_getElem? hy), hC⟩)) q588 q589 (na := 2) rfl (by decide +kernel) (Nat.le_of_ble_eq_true rfl) (by decide) (by rw [hlen]; decide) (by rw [hlen]; decide) rfl dJ33_grow_2_37 (fun _ _ _ hx => hx.elim) (fun v10 h11 hp => ?_)
        obtain ⟨q, f', rfl, p1, p2, p3, p4⟩ := hp
        show V g A κ _ _ 1 22 h11 40 [(3, .int (nI 22)), (2, .int (nI 15)), (0, .ref al), (1, .int (nI 16))] [.ref q, .ref al]
        refine V.dup_x1 cx dJ33_grow_2_40 rfl rfl ?_
        refine V.put (ty := tyJ33 1) cx kJ33 (p4 _ _ e1) 1 (by decide) rfl (tyJ33_ok 1 (by decide)) rfl rfl (Nat.le_of_ble_eq_true rfl) q302 rfl dJ33_grow_2_41 ?_
        show V g A κ _ _ 1 22 (up h11 al (ob 20 [.int md, .ref q, .int (nI 15)])) 44 [(3, .int (nI 22)), (2, .int (nI 15)), (0, .ref al), (1, .int (nI 16))] [.ref q]
        exact V.areturn cx rfl (Or.inr ⟨_, rfl⟩) ⟨q, f', rfl, p1, by rw [hlen]; exact up_s, by rw [hlen]; exact (up_n (Ne.symm (ne_of e1 p1))).trans p2, fun j hj => (p3 j (by omega)).trans (e2 j hj), (Ext.off p4).put List.mem_cons_self⟩ (by rw [hlen]; decide) (by rw [hlen]; decide) dJ33_grow_2_44
      · exact absurd c_7 (by decide)
abbrev cJ33_grow : ByteArray := prog_50_method_7_code
def yJ33_grow : MethodName := ⟨RJ33, "grow", "()[Ljava/lang/Object;"⟩
def dkwJ33_grow_0 : List UInt8 := [42, 42, 180, 0, 48, 4, 96, 182, 0, 69, 176]
abbrev dktJ33_grow_0 : List UInt8 := dkwJ33_grow_0 ++ []
theorem dksJ33_grow_0 : cJ33_grow.data.toList.drop 0 = dktJ33_grow_0 := by decide +kernel
theorem dJ33_grow_0 : decode cJ33_grow 0 = .ok (.aload_n 0, 1) := dk_42 (dk_at dksJ33_grow_0 0 rfl rfl)
theorem dJ33_grow_1 : decode cJ33_grow 1 = .ok (.aload_n 0, 1) := dk_42 (dk_at dksJ33_grow_0 1 rfl rfl)
theorem dJ33_grow_2 : decode cJ33_grow 2 = .ok (.getfield 48, 3) := dk_180 0 48 (dk_at dksJ33_grow_0 2 rfl rfl)
theorem dJ33_grow_5 : decode cJ33_grow 5 = .ok (.iconst 1, 1) := dk_4 (dk_at dksJ33_grow_0 5 rfl rfl)
theorem dJ33_grow_6 : decode cJ33_grow 6 = .ok (.iadd, 1) := dk_96 (dk_at dksJ33_grow_0 6 rfl rfl)
theorem dJ33_grow_7 : decode cJ33_grow 7 = .ok (.invokevirtual 69, 3) := dk_182 0 69 (dk_at dksJ33_grow_0 7 rfl rfl)
theorem dJ33_grow_10 : decode cJ33_grow 10 = .ok (.areturn, 1) := dk_176 (dk_at dksJ33_grow_0 10 rfl rfl)
set_option maxHeartbeats 4000000 in
theorem m_alGrow (l : Launch) (hl : l.stackTraces = false) (g : GE) (A : Nat → Prop) (h : AHT) (al dt : Nat) (xs : List Nat) (md : Int32) (f : Nat → Option Nat) (e1 : h al = some (ob 20 [.int md, .ref dt, .int (nI xs.length)])) (e2 : ∀ j, j < xs.length → f j = xs[j]?) (e4 : (xs = [] ∧ dt = g.ad 4 3) ∨ (xs ≠ [] ∧ h dt = some (aQ g 5 (capOf xs.length) f))) (hfull : xs.length = 0 ∨ xs.length = 10 ∨ xs.length = 15) (C : String) (hC : Cond.castable C "java/lang/Object" ∈ lw_tbl) (hel : ∀ y ∈ xs, Rv g h y C) : U_ l g A yJ33_grow 5 (grC xs.length) (grS xs.length) [.ref al] h (fun v h' => ∃ q f', v = some (.ref q) ∧ h q = none ∧ h' al = some (ob 20 [.int md, .ref q, .int (nI xs.length)]) ∧ h' q = some (aQ g 5 (capOf (xs.length + 1)) f') ∧ (∀ j, j < xs.length → f' j = xs[j]?) ∧ Off [al] h h') noX := by
  refine U_.of (own := RJ33) (cc := cJ33_grow) (L := 1) (ret := (some (Jvm.ClassFile.FieldType.array (Jvm.ClassFile.FieldType.object "java/lang/Object")))) hl rfl (plainFor_of_name (by decide)) ⟨by decide, by decide⟩ q573 q126 (by decide) (fun e => absurd e (by decide)) (Nat.le_of_ble_eq_true rfl) (fun κ cx => ?_)
  show V g A κ _ _ 0 0 h 0 [(0, .ref al)] []
  refine V.aload_n cx dJ33_grow_0 rfl 0 rfl ?_
  refine V.aload_n cx dJ33_grow_1 rfl 0 rfl ?_
  refine V.get cx kJ33 e1 2 (by decide) q305 rfl rfl dJ33_grow_2 ?_
  refine V.iconst (v := (nI 1)) cx dJ33_grow_5 (by decide) ?_
  refine V.iadd cx dJ33_grow_6 ?_
  refine V.toi (nI_add xs.length 1) ?_
  refine V.callV (As := [.int (nI (xs.length + 1))]) (rest := []) (C := "java/util/ArrayList") cx (m_alGrow2 l hl g A h al dt xs md f e1 e2 e4 hfull C hC hel) rfl q574 q576 qs3 (Rv.of kJ33 e1) (na := 1) rfl (by decide +kernel) (Nat.le_of_ble_eq_true rfl) (by decide) (by omega) (by omega) rfl dJ33_grow_7 (fun _ _ _ hx => hx.elim) (fun v1 h2 hp => ?_)
  obtain ⟨q, f', rfl, p1, p2, p3, p4, p5⟩ := hp
  show V g A κ _ _ (0 + grC xs.length) (0 + grS xs.length) h2 10 [(0, .ref al)] [.ref q]
  exact V.areturn cx rfl (Or.inr ⟨_, rfl⟩) ⟨q, f', rfl, p1, p2, p3, p4, p5⟩ (by omega) (by omega) dJ33_grow_10
theorem capOf_all : ∀ n, n ≤ 21 → (n = capOf n → n = 0 ∨ n = 10 ∨ n = 15) ∧ (¬ (n = 0 ∨ n = 10 ∨ n = 15) → n < capOf n ∧ capOf (n + 1) = capOf n) ∧ n < capOf (n + 1) := by decide
theorem capOf_lt {n : Nat} (hn : n ≤ 21) (hx : ¬ (n = 0 ∨ n = 10 ∨ n = 15)) : n < capOf n ∧ capOf (n + 1) = capOf n := (capOf_all n hn).2.1 hx
theorem capOf_b (n : Nat) : capOf n < 2 ^ 24 := by unfold capOf; (repeat' split) <;> omega
theorem capOf_eq {n : Nat} (hn : n ≤ 21) (h : n = capOf n) : n = 0 ∨ n = 10 ∨ n = 15 := (capOf_all n hn).1 h
theorem capOf_s {n : Nat} (hn : n ≤ 21) : n < capOf (n + 1) := (capOf_all n hn).2.2
theorem gr_full {n : Nat} (h : n = 0 ∨ n = 10 ∨ n = 15) : grC n = 1 := by unfold grC; rw [if_pos h]
theorem al_app {xs : List Nat} {f : Nat → Option Nat} {x : Nat} (h : ∀ j, j < xs.length → f j = xs[j]?) : ∀ j, j < (xs ++ [x]).length → (va_up f xs.length (some x)) j = (xs ++ [x])[j]? := by
  intro j hj
  rw [List.length_append, List.length_singleton] at hj
  by_cases e : j = xs.length
  · subst e
    rw [va_up_self]; simp
  · rw [va_up_ne _ _ e, h j (by omega), List.getElem?_append_left (by omega)]
abbrev cJ33_add_2 : ByteArray := prog_50_method_24_code
def yJ33_add_2 : MethodName := ⟨RJ33, "add", "(Ljava/lang/Object;[Ljava/lang/Object;I)V"⟩
def dkwJ33_add_2_0 : List UInt8 := [29, 44, 190, 160, 0, 8, 42, 182, 0, 129, 77, 44, 29, 43, 83, 42, 29, 4, 96, 181, 0, 48, 177]
abbrev dktJ33_add_2_0 : List UInt8 := dkwJ33_add_2_0 ++ []
theorem dksJ33_add_2_0 : cJ33_add_2.data.toList.drop 0 = dktJ33_add_2_0 := by decide +kernel
theorem dJ33_add_2_0 : decode cJ33_add_2 0 = .ok (.iload_n 3, 1) := dk_29 (dk_at dksJ33_add_2_0 0 rfl rfl)
theorem dJ33_add_2_1 : decode cJ33_add_2 1 = .ok (.aload_n 2, 1) := dk_44 (dk_at dksJ33_add_2_0 1 rfl rfl)
theorem dJ33_add_2_2 : decode cJ33_add_2 2 = .ok (.arraylength, 1) := dk_190 (dk_at dksJ33_add_2_0 2 rfl rfl)
theorem dJ33_add_2_3 : decode cJ33_add_2 3 = .ok (.if_icmp .ne 8, 3) := dk_160 0 8 (dk_at dksJ33_add_2_0 3 rfl rfl)
theorem dJ33_add_2_6 : decode cJ33_add_2 6 = .ok (.aload_n 0, 1) := dk_42 (dk_at dksJ33_add_2_0 6 rfl rfl)
theorem dJ33_add_2_7 : decode cJ33_add_2 7 = .ok (.invokevirtual 129, 3) := dk_182 0 129 (dk_at dksJ33_add_2_0 7 rfl rfl)
theorem dJ33_add_2_10 : decode cJ33_add_2 10 = .ok (.astore_n 2, 1) := dk_77 (dk_at dksJ33_add_2_0 10 rfl rfl)
theorem dJ33_add_2_11 : decode cJ33_add_2 11 = .ok (.aload_n 2, 1) := dk_44 (dk_at dksJ33_add_2_0 11 rfl rfl)
theorem dJ33_add_2_12 : decode cJ33_add_2 12 = .ok (.iload_n 3, 1) := dk_29 (dk_at dksJ33_add_2_0 12 rfl rfl)
theorem dJ33_add_2_13 : decode cJ33_add_2 13 = .ok (.aload_n 1, 1) := dk_43 (dk_at dksJ33_add_2_0 13 rfl rfl)
theorem dJ33_add_2_14 : decode cJ33_add_2 14 = .ok (.aastore, 1) := dk_83 (dk_at dksJ33_add_2_0 14 rfl rfl)
theorem dJ33_add_2_15 : decode cJ33_add_2 15 = .ok (.aload_n 0, 1) := dk_42 (dk_at dksJ33_add_2_0 15 rfl rfl)
theorem dJ33_add_2_16 : decode cJ33_add_2 16 = .ok (.iload_n 3, 1) := dk_29 (dk_at dksJ33_add_2_0 16 rfl rfl)
theorem dJ33_add_2_17 : decode cJ33_add_2 17 = .ok (.iconst 1, 1) := dk_4 (dk_at dksJ33_add_2_0 17 rfl rfl)
theorem dJ33_add_2_18 : decode cJ33_add_2 18 = .ok (.iadd, 1) := dk_96 (dk_at dksJ33_add_2_0 18 rfl rfl)
theorem dJ33_add_2_19 : decode cJ33_add_2 19 = .ok (.putfield 48, 3) := dk_181 0 48 (dk_at dksJ33_add_2_0 19 rfl rfl)
theorem dJ33_add_2_22 : decode cJ33_add_2 22 = .ok (.return_, 1) := dk_177 (dk_at dksJ33_add_2_0 22 rfl rfl)
set_option maxHeartbeats 4000000 in
theorem m_alAdd2 (l : Launch) (hl : l.stackTraces = false) (g : GE) (A : Nat → Prop) (h : AHT) (al dt x : Nat) (xs : List Nat) (hlen : xs.length ≤ 21) (md : Int32) (f : Nat → Option Nat) (e1 : h al = some (ob 20 [.int md, .ref dt, .int (nI xs.length)])) (e2 : ∀ j, j < xs.length → f j = xs[j]?) (e4 : (xs = [] ∧ dt = g.ad 4 3) ∨ (xs ≠ [] ∧ h dt = some (aQ g 5 (capOf xs.length) f))) (C : String) (hC : Cond.castable C "java/lang/Object" ∈ lw_tbl) (hel : ∀ y ∈ xs, Rv g h y C) (hx : Rv g h x C) : U_ l g A yJ33_add_2 6 (grC xs.length) (grS xs.length) [.ref al, .ref x, .ref dt, .int (nI xs.length)] h (fun v h' => v = none ∧ ∃ dt', AL g h' al dt' (xs ++ [x]) ∧ (dt' = dt ∨ h dt' = none) ∧ Off [al, dt] h h') noX := by
  refine U_.of (own := RJ33) (cc := cJ33_add_2) (L := 4) (ret := (none)) hl rfl (plainFor_of_name (by decide)) ⟨by decide, by decide⟩ q569 q126 (by decide) (fun e => absurd e (by decide)) (Nat.le_of_ble_eq_true rfl) (fun κ cx => ?_)
  show V g A κ _ _ 0 0 h 0 [(0, .ref al), (1, .ref x), (2, .ref dt), (3, .int (nI xs.length))] []
  rcases e4 with ⟨rfl, rfl⟩ | ⟨e4, e5⟩
  · show V g A κ _ _ 0 0 h 0 [(0, .ref al), (1, .ref x), (2, .ref (g.ad 4 3)), (3, .int (nI 0))] []
    refine V.iload_n cx dJ33_add_2_0 rfl 3 rfl ?_
    refine V.aload_n cx dJ33_add_2_1 rfl 2 rfl ?_
    refine V.alenR cx cx.gok.2.2.2.2.2.1 dJ33_add_2_2 ?_
    refine V.nicmp_ne (a := 0) (b := 0) (tgt := 11) cx (by decide) (by decide) dJ33_add_2_3 (by decide) (fun c_3 => ?_) (fun c_3 => ?_)
    · exact absurd rfl c_3
    · refine V.aload_n cx dJ33_add_2_6 rfl 0 rfl ?_
      refine V.callV (As := []) (rest := []) (C := "java/util/ArrayList") cx (m_alGrow l hl g A h al (g.ad 4 3) [] md f e1 e2 (Or.inl ⟨rfl, rfl⟩) (Or.inl rfl) C hC hel) rfl q570 q572 qs2 (Rv.of kJ33 e1) (na := 0) rfl (by decide +kernel) (Nat.le_of_ble_eq_true rfl) (by decide) (by decide) (by decide) rfl dJ33_add_2_7 (fun _ _ _ hx => hx.elim) (fun v1 h2 hp => ?_)
      obtain ⟨q, f', rfl, p1, p2, p3, p4, p5⟩ := hp
      show V g A κ _ _ 1 10 h2 10 [(0, .ref al), (1, .ref x), (2, .ref (g.ad 4 3)), (3, .int (nI 0))] [.ref q]
      refine V.astore_n (lv' := [(2, .ref q), (0, .ref al), (1, .ref x), (3, .int (nI 0))]) cx dJ33_add_2_10 rfl (by decide) rfl ?_
      refine V.aload_n cx dJ33_add_2_11 rfl 0 rfl ?_
      refine V.iload_n cx dJ33_add_2_12 rfl 3 rfl ?_
      refine V.aload_n cx dJ33_add_2_13 rfl 2 rfl ?_
      have hx1 : Rv g h2 x C := by
        by_cases e : x = al
        · subst e; rcases hx with ⟨c1, N, T, f1, z1, z2⟩ | z
          · rw [e1] at z1; cases z1; exact Or.inl ⟨_, N, T, _, p2, z2⟩
          · exact Or.inr z
        · exact hx.off p5 (by simpa using e)
      refine V.aastore (j := 0) (C := C) cx p3 rfl rfl (by decide) (by decide) hx1 (Or.inr hC) dJ33_add_2_14 ?_
      show V g A κ _ _ 1 10 (up h2 q (aQ g 5 10 (va_up f' 0 (some x)))) 15 [(2, .ref q), (0, .ref al), (1, .ref x), (3, .int (nI 0))] []
      refine V.aload_n cx dJ33_add_2_15 rfl 1 rfl ?_
      refine V.iload_n cx dJ33_add_2_16 rfl 3 rfl ?_
      refine V.iconst (v := (nI 1)) cx dJ33_add_2_17 (by decide) ?_
      refine V.iadd cx dJ33_add_2_18 ?_
      refine V.toi (nI_add 0 1) ?_
      refine V.put (ty := tyJ33 2) cx kJ33 ((up_n (ne_of e1 p1)).trans p2) 2 (by decide) rfl (tyJ33_ok 2 (by decide)) rfl rfl (Nat.le_of_ble_eq_true rfl) q305 rfl dJ33_add_2_19 ?_
      show V g A κ _ _ 1 10 (up (up h2 q (aQ g 5 10 (va_up f' 0 (some x)))) al (ob 20 [.int md, .ref q, .int (nI 1)])) 22 [(2, .ref q), (0, .ref al), (1, .ref x), (3, .int (nI 0))] []
      refine V.hto (h' := (up (up h2 q (aQ g 5 10 (va_up f' 0 (some x)))) al (ob 20 [.int md, .ref q, .int (nI 1)]))) rfl ?_
      exact V.vreturn cx rfl ⟨rfl, q, ⟨md, _, up_s, fun j hj => al_app (xs := []) (f := f') (fun j hj => absurd hj (Nat.not_lt_zero _)) j hj, by simp, Or.inr ⟨by simp, (up_n (Ne.symm (ne_of e1 p1))).trans up_s⟩⟩, Or.inr p1, ((Off.mono p5 (by simp)).upn p1).put (by simp)⟩ (by decide) (by decide) dJ33_add_2_22
  · have hcb := capOf_b xs.length
    refine V.iload_n cx dJ33_add_2_0 rfl 3 rfl ?_
    refine V.aload_n cx dJ33_add_2_1 rfl 2 rfl ?_
    refine V.alen (t0 := 5) cx e5 rfl dJ33_add_2_2 ?_
    show V g A κ _ _ 0 0 h 3 [(0, .ref al), (1, .ref x), (2, .ref dt), (3, .int (nI xs.length))] [.int (nI (capOf xs.length)), .int (nI xs.length)]
    refine V.nicmp_ne (a := xs.length) (b := (capOf xs.length)) (tgt := 11) cx (by omega) (by omega) dJ33_add_2_3 (by decide) (fun c_3 => ?_) (fun c_3 => ?_)
    · have hnf : ¬ (xs.length = 0 ∨ xs.length = 10 ∨ xs.length = 15) := by intro z; have := List.length_pos_iff.mpr e4; rcases z with z | z | z <;> rw [z] at c_3 <;> first | omega | exact absurd rfl c_3
      obtain ⟨hlt, hce⟩ := capOf_lt hlen hnf
      refine V.aload_n cx dJ33_add_2_11 rfl 2 rfl ?_
      refine V.iload_n cx dJ33_add_2_12 rfl 3 rfl ?_
      refine V.aload_n cx dJ33_add_2_13 rfl 1 rfl ?_
      refine V.aastore (j := xs.length) (C := C) cx e5 rfl rfl (by omega) (by omega) hx (Or.inr hC) dJ33_add_2_14 ?_
      show V g A κ _ _ 0 0 (up h dt (aQ g 5 (capOf xs.length) (va_up f xs.length (some x)))) 15 [(0, .ref al), (1, .ref x), (2, .ref dt), (3, .int (nI xs.length))] []
      refine V.aload_n cx dJ33_add_2_15 rfl 0 rfl ?_
      refine V.iload_n cx dJ33_add_2_16 rfl 3 rfl ?_
      refine V.iconst (v := (nI 1)) cx dJ33_add_2_17 (by decide) ?_
      refine V.iadd cx dJ33_add_2_18 ?_
      refine V.toi (nI_add xs.length 1) ?_
      refine V.put (ty := tyJ33 2) cx kJ33 ((up_n (fun z => by rw [z, e5] at e1; cases e1)).trans e1) 2 (by decide) rfl (tyJ33_ok 2 (by decide)) rfl rfl (Nat.le_of_ble_eq_true rfl) q305 rfl dJ33_add_2_19 ?_
      show V g A κ _ _ 0 0 (up (up h dt (aQ g 5 (capOf xs.length) (va_up f xs.length (some x)))) al (ob 20 [.int md, .ref dt, .int (nI (xs.length + 1))])) 22 [(0, .ref al), (1, .ref x), (2, .ref dt), (3, .int (nI xs.length))] []
      exact V.vreturn cx rfl ⟨rfl, dt, ⟨md, _, by rw [List.length_append]; exact up_s, al_app e2, by rw [List.length_append]; exact Nat.succ_le_succ hlen, Or.inr ⟨by simp, by rw [List.length_append, List.length_singleton, hce]; exact (up_n (fun z => by rw [z, e1] at e5; cases e5)).trans up_s⟩⟩, Or.inl rfl, (Off.rf.put (by simp)).put (by simp)⟩ (by omega) (by omega) dJ33_add_2_22
    · have hfu := capOf_eq hlen c_3
      have hcs := capOf_s hlen
      have hcb2 := capOf_b (xs.length + 1)
      refine V.aload_n cx dJ33_add_2_6 rfl 0 rfl ?_
      refine V.callV (As := []) (rest := []) (C := "java/util/ArrayList") cx (m_alGrow l hl g A h al dt xs md f e1 e2 (Or.inr ⟨e4, e5⟩) hfu C hC hel) rfl q570 q572 qs2 (Rv.of kJ33 e1) (na := 0) rfl (by decide +kernel) (Nat.le_of_ble_eq_true rfl) (by decide) (by omega) (by omega) rfl dJ33_add_2_7 (fun _ _ _ hx => hx.elim) (fun v3 h4 hp => ?_)
      obtain ⟨q, f', rfl, p1, p2, p3, p4, p5⟩ := hp
      show V g A κ _ _ (0 + grC xs.length) (0 + grS xs.length) h4 10 [(0, .ref al), (1, .ref x), (2, .ref dt), (3, .int (nI xs.length))] [.ref q]
      refine V.astore_n (lv' := [(2, .ref q), (0, .ref al), (1, .ref x), (3, .int (nI xs.length))]) cx dJ33_add_2_10 rfl (by decide) rfl ?_
      refine V.aload_n cx dJ33_add_2_11 rfl 0 rfl ?_
      refine V.iload_n cx dJ33_add_2_12 rfl 3 rfl ?_
      refine V.aload_n cx dJ33_add_2_13 rfl 2 rfl ?_
      have hx1 : Rv g h4 x C := by
        by_cases e : x = al
        · subst e; rcases hx with ⟨c1, N, T, f1, z1, z2⟩ | z
          · rw [e1] at z1; cases z1; exact Or.inl ⟨_, N, T, _, p2, z2⟩
          · exact Or.inr z
        · exact hx.off p5 (by simpa using e)
      refine V.aastore (j := xs.length) (C := C) cx p3 rfl rfl (by omega) (by omega) hx1 (Or.inr hC) dJ33_add_2_14 ?_
      show V g A κ _ _ (0 + grC xs.length) (0 + grS xs.length) (up h4 q (aQ g 5 (capOf (xs.length + 1)) (va_up f' xs.length (some x)))) 15 [(2, .ref q), (0, .ref al), (1, .ref x), (3, .int (nI xs.length))] []
      refine V.aload_n cx dJ33_add_2_15 rfl 1 rfl ?_
      refine V.iload_n cx dJ33_add_2_16 rfl 3 rfl ?_
      refine V.iconst (v := (nI 1)) cx dJ33_add_2_17 (by decide) ?_
      refine V.iadd cx dJ33_add_2_18 ?_
      refine V.toi (nI_add xs.length 1) ?_
      refine V.put (ty := tyJ33 2) cx kJ33 ((up_n (ne_of e1 p1)).trans p2) 2 (by decide) rfl (tyJ33_ok 2 (by decide)) rfl rfl (Nat.le_of_ble_eq_true rfl) q305 rfl dJ33_add_2_19 ?_
      show V g A κ _ _ (0 + grC xs.length) (0 + grS xs.length) (up (up h4 q (aQ g 5 (capOf (xs.length + 1)) (va_up f' xs.length (some x)))) al (ob 20 [.int md, .ref q, .int (nI (xs.length + 1))])) 22 [(2, .ref q), (0, .ref al), (1, .ref x), (3, .int (nI xs.length))] []
      exact V.vreturn cx rfl ⟨rfl, q, ⟨md, _, by rw [List.length_append]; exact up_s, al_app p4, by rw [List.length_append]; exact Nat.succ_le_succ hlen, Or.inr ⟨by simp, by rw [List.length_append, List.length_singleton]; exact (up_n (Ne.symm (ne_of e1 p1))).trans up_s⟩⟩, Or.inr p1, ((Off.mono p5 (by simp)).upn p1).put (by simp)⟩ (by omega) (by omega) dJ33_add_2_22
abbrev cJ33_add : ByteArray := prog_50_method_25_code
def yJ33_add : MethodName := ⟨RJ33, "add", "(Ljava/lang/Object;)Z"⟩
def dkwJ33_add_1 : List UInt8 := [172]
abbrev dktJ33_add_1 : List UInt8 := dkwJ33_add_1 ++ []
def dkwJ33_add_0 : List UInt8 := [42, 89, 180, 0, 63, 4, 96, 181, 0, 63, 42, 43, 42, 180, 0, 9, 42, 180, 0, 48, 182, 0, 131, 4]
abbrev dktJ33_add_0 : List UInt8 := dkwJ33_add_0 ++ dktJ33_add_1
theorem dksJ33_add_0 : cJ33_add.data.toList.drop 0 = dktJ33_add_0 := by decide +kernel
theorem dksJ33_add_1 : cJ33_add.data.toList.drop 24 = dktJ33_add_1 := dk_seg dksJ33_add_0 24 rfl rfl
theorem dJ33_add_0 : decode cJ33_add 0 = .ok (.aload_n 0, 1) := dk_42 (dk_at dksJ33_add_0 0 rfl rfl)
theorem dJ33_add_1 : decode cJ33_add 1 = .ok (.dup, 1) := dk_89 (dk_at dksJ33_add_0 1 rfl rfl)
theorem dJ33_add_2 : decode cJ33_add 2 = .ok (.getfield 63, 3) := dk_180 0 63 (dk_at dksJ33_add_0 2 rfl rfl)
theorem dJ33_add_5 : decode cJ33_add 5 = .ok (.iconst 1, 1) := dk_4 (dk_at dksJ33_add_0 5 rfl rfl)
theorem dJ33_add_6 : decode cJ33_add 6 = .ok (.iadd, 1) := dk_96 (dk_at dksJ33_add_0 6 rfl rfl)
theorem dJ33_add_7 : decode cJ33_add 7 = .ok (.putfield 63, 3) := dk_181 0 63 (dk_at dksJ33_add_0 7 rfl rfl)
theorem dJ33_add_10 : decode cJ33_add 10 = .ok (.aload_n 0, 1) := dk_42 (dk_at dksJ33_add_0 10 rfl rfl)
theorem dJ33_add_11 : decode cJ33_add 11 = .ok (.aload_n 1, 1) := dk_43 (dk_at dksJ33_add_0 11 rfl rfl)
theorem dJ33_add_12 : decode cJ33_add 12 = .ok (.aload_n 0, 1) := dk_42 (dk_at dksJ33_add_0 12 rfl rfl)
theorem dJ33_add_13 : decode cJ33_add 13 = .ok (.getfield 9, 3) := dk_180 0 9 (dk_at dksJ33_add_0 13 rfl rfl)
theorem dJ33_add_16 : decode cJ33_add 16 = .ok (.aload_n 0, 1) := dk_42 (dk_at dksJ33_add_0 16 rfl rfl)
theorem dJ33_add_17 : decode cJ33_add 17 = .ok (.getfield 48, 3) := dk_180 0 48 (dk_at dksJ33_add_0 17 rfl rfl)
theorem dJ33_add_20 : decode cJ33_add 20 = .ok (.invokevirtual 131, 3) := dk_182 0 131 (dk_at dksJ33_add_0 20 rfl rfl)
theorem dJ33_add_23 : decode cJ33_add 23 = .ok (.iconst 1, 1) := dk_4 (dk_at dksJ33_add_0 23 rfl rfl)
theorem dJ33_add_24 : decode cJ33_add 24 = .ok (.ireturn, 1) := dk_172 (dk_at dksJ33_add_1 0 rfl rfl)
set_option maxHeartbeats 4000000 in
theorem m_alAdd (l : Launch) (hl : l.stackTraces = false) (g : GE) (A : Nat → Prop) (h : AHT) (al dt x : Nat) (xs : List Nat) (hlen : xs.length ≤ 21) (ha : AL g h al dt xs) (C : String) (hC : Cond.castable C "java/lang/Object" ∈ lw_tbl) (hel : ∀ y ∈ xs, Rv g h y C) (hx : Rv g h x C) : U_ l g A yJ33_add 7 (grC xs.length) (grS xs.length) [.ref al, .ref x] h (fun v h' => v = some (.int (nI 1)) ∧ ∃ dt', AL g h' al dt' (xs ++ [x]) ∧ (dt' = dt ∨ h dt' = none) ∧ Off [al, dt] h h') noX := by
  refine U_.of (own := RJ33) (cc := cJ33_add) (L := 2) (ret := (some Jvm.ClassFile.FieldType.boolean)) hl rfl (plainFor_of_name (by decide)) ⟨by decide, by decide⟩ q565 q126 (by decide) (fun e => absurd e (by decide)) (Nat.le_of_ble_eq_true rfl) (fun κ cx => ?_)
  show V g A κ _ _ 0 0 h 0 [(0, .ref al), (1, .ref x)] []
  obtain ⟨md, f, e1, e2, e3, e4⟩ := ha
  refine V.aload_n cx dJ33_add_0 rfl 0 rfl ?_
  refine V.dup cx dJ33_add_1 rfl ?_
  refine V.getS cx kJ33 e1 0 (by decide) q309 q308 rfl dJ33_add_2 ?_
  refine V.iconst (v := (nI 1)) cx dJ33_add_5 (by decide) ?_
  refine V.iadd cx dJ33_add_6 ?_
  refine V.putS (ty := tyJ33 0) cx kJ33 e1 0 (by decide) rfl (tyJ33_ok 0 (by decide)) rfl rfl (Nat.le_of_ble_eq_true rfl) q309 q308 dJ33_add_7 ?_
  show V g A κ _ _ 0 0 (up h al (ob 20 [.int (md + (nI 1)), .ref dt, .int (nI xs.length)])) 10 [(0, .ref al), (1, .ref x)] []
  refine V.aload_n cx dJ33_add_10 rfl 0 rfl ?_
  refine V.aload_n cx dJ33_add_11 rfl 1 rfl ?_
  refine V.aload_n cx dJ33_add_12 rfl 0 rfl ?_
  refine V.get cx kJ33 up_s 1 (by decide) q302 rfl rfl dJ33_add_13 ?_
  refine V.aload_n cx dJ33_add_16 rfl 0 rfl ?_
  refine V.get cx kJ33 up_s 2 (by decide) q305 rfl rfl dJ33_add_17 ?_
  have e4' : (xs = [] ∧ dt = g.ad 4 3) ∨ (xs ≠ [] ∧ (up h al (ob 20 [.int (md + (nI 1)), .ref dt, .int (nI xs.length)])) dt = some (aQ g 5 (capOf xs.length) f)) := e4.imp id (fun z => ⟨z.1, (up_n (fun y => by rw [y, e1] at z; cases z.2)).trans z.2⟩)
  refine V.callV (As := [.ref x, .ref dt, .int (nI xs.length)]) (rest := []) (C := "java/util/ArrayList") cx (m_alAdd2 l hl g A (up h al (ob 20 [.int (md + (nI 1)), .ref dt, .int (nI xs.length)])) al dt x xs hlen _ f up_s e2 e4' C hC (fun y hy => (hel y hy).put e1) (hx.put e1)) rfl q566 q568 qs1 (Rv.of kJ33 up_s) (na := 3) rfl (by decide +kernel) (Nat.le_of_ble_eq_true rfl) (by decide) (by omega) (by omega) rfl dJ33_add_20 (fun _ _ _ hx => hx.elim) (fun v1 h2 hp => ?_)
  obtain ⟨rfl, dt', p1, p2, p3⟩ := hp
  show V g A κ _ _ (0 + grC xs.length) (0 + grS xs.length) h2 23 [(0, .ref al), (1, .ref x)] []
  refine V.iconst (v := (nI 1)) cx dJ33_add_23 (by decide) ?_
  refine V.hto (h' := h2) rfl ?_
  exact V.ireturn (x := (nI 1)) cx rfl (by decide) ⟨rfl, dt', p1, p2.imp id (fun z => by by_cases y : dt' = al; rw [y, up_s] at z; cases z; rw [up_n y] at z; exact z), ((Off.rf (S := [al, dt])).put (by simp)).trans p3⟩ (by omega) (by omega) dJ33_add_24
theorem al_ins {L1 L2 : List Nat} {f : Nat → Option Nat} {x : Nat} (h : ∀ j, j < (L1 ++ L2).length → f j = (L1 ++ L2)[j]?) : ∀ j, j < (L1 ++ x :: L2).length → (va_up (va_cpy f f L1.length (L1.length + 1) ((L1 ++ L2).length - L1.length)) L1.length (some x)) j = (L1 ++ x :: L2)[j]? := by
  intro j hj
  simp only [List.length_append, List.length_cons] at hj h ⊢
  by_cases e : j = L1.length
  · subst e
    rw [va_up_self]; simp
  · rw [va_up_ne _ _ e]
    by_cases e2 : j < L1.length
    · rw [pk_cpy_out (Or.inl (by omega)), h j (by omega), List.getElem?_append_left e2, List.getElem?_append_left e2]
    · obtain ⟨k, rfl⟩ : ∃ k, j = L1.length + 1 + k := ⟨j - L1.length - 1, by omega⟩
      rw [pk_cpy_in (by omega) (by omega), h _ (by omega), List.getElem?_append_right (by omega), List.getElem?_append_right (by omega)]
      have : L1.length + 1 + k - L1.length = k + 1 := by omega
      rw [this, List.getElem?_cons_succ]
      congr 1
      omega
abbrev cJ33_rangeCheckForAdd : ByteArray := prog_50_method_45_code
def yJ33_rangeCheckForAdd : MethodName := ⟨RJ33, "rangeCheckForAdd", "(I)V"⟩
def dkwJ33_rangeCheckForAdd_1 : List UInt8 := [191, 177]
abbrev dktJ33_rangeCheckForAdd_1 : List UInt8 := dkwJ33_rangeCheckForAdd_1 ++ []
def dkwJ33_rangeCheckForAdd_0 : List UInt8 := [27, 42, 180, 0, 48, 163, 0, 7, 27, 156, 0, 16, 187, 0, 187, 89, 42, 27, 182, 0, 198, 183, 0, 193]
abbrev dktJ33_rangeCheckForAdd_0 : List UInt8 := dkwJ33_rangeCheckForAdd_0 ++ dktJ33_rangeCheckForAdd_1
theorem dksJ33_rangeCheckForAdd_0 : cJ33_rangeCheckForAdd.data.toList.drop 0 = dktJ33_rangeCheckForAdd_0 := by decide +kernel
theorem dksJ33_rangeCheckForAdd_1 : cJ33_rangeCheckForAdd.data.toList.drop 24 = dktJ33_rangeCheckForAdd_1 := dk_seg dksJ33_rangeCheckForAdd_0 24 rfl rfl
theorem dJ33_rangeCheckForAdd_0 : decode cJ33_rangeCheckForAdd 0 = .ok (.iload_n 1, 1) := dk_27 (dk_at dksJ33_rangeCheckForAdd_0 0 rfl rfl)
theorem dJ33_rangeCheckForAdd_1 : decode cJ33_rangeCheckForAdd 1 = .ok (.aload_n 0, 1) := dk_42 (dk_at dksJ33_rangeCheckForAdd_0 1 rfl rfl)
theorem dJ33_rangeCheckForAdd_2 : decode cJ33_rangeCheckForAdd 2 = .ok (.getfield 48, 3) := dk_180 0 48 (dk_at dksJ33_rangeCheckForAdd_0 2 rfl rfl)
theorem dJ33_rangeCheckForAdd_5 : decode cJ33_rangeCheckForAdd 5 = .ok (.if_icmp .gt 7, 3) := dk_163 0 7 (dk_at dksJ33_rangeCheckForAdd_0 5 rfl rfl)
theorem dJ33_rangeCheckForAdd_8 : decode cJ33_rangeCheckForAdd 8 = .ok (.iload_n 1, 1) := dk_27 (dk_at dksJ33_rangeCheckForAdd_0 8 rfl rfl)
theorem dJ33_rangeCheckForAdd_9 : decode cJ33_rangeCheckForAdd 9 = .ok (.ifCond .ge 16, 3) := dk_156 0 16 (dk_at dksJ33_rangeCheckForAdd_0 9 rfl rfl)
theorem dJ33_rangeCheckForAdd_12 : decode cJ33_rangeCheckForAdd 12 = .ok (.new 187, 3) := dk_187 0 187 (dk_at dksJ33_rangeCheckForAdd_0 12 rfl rfl)
theorem dJ33_rangeCheckForAdd_15 : decode cJ33_rangeCheckForAdd 15 = .ok (.dup, 1) := dk_89 (dk_at dksJ33_rangeCheckForAdd_0 15 rfl rfl)
theorem dJ33_rangeCheckForAdd_16 : decode cJ33_rangeCheckForAdd 16 = .ok (.aload_n 0, 1) := dk_42 (dk_at dksJ33_rangeCheckForAdd_0 16 rfl rfl)
theorem dJ33_rangeCheckForAdd_17 : decode cJ33_rangeCheckForAdd 17 = .ok (.iload_n 1, 1) := dk_27 (dk_at dksJ33_rangeCheckForAdd_0 17 rfl rfl)
theorem dJ33_rangeCheckForAdd_18 : decode cJ33_rangeCheckForAdd 18 = .ok (.invokevirtual 198, 3) := dk_182 0 198 (dk_at dksJ33_rangeCheckForAdd_0 18 rfl rfl)
theorem dJ33_rangeCheckForAdd_21 : decode cJ33_rangeCheckForAdd 21 = .ok (.invokespecial 193, 3) := dk_183 0 193 (dk_at dksJ33_rangeCheckForAdd_0 21 rfl rfl)
theorem dJ33_rangeCheckForAdd_24 : decode cJ33_rangeCheckForAdd 24 = .ok (.athrow, 1) := dk_191 (dk_at dksJ33_rangeCheckForAdd_1 0 rfl rfl)
theorem dJ33_rangeCheckForAdd_25 : decode cJ33_rangeCheckForAdd 25 = .ok (.return_, 1) := dk_177 (dk_at dksJ33_rangeCheckForAdd_1 1 rfl rfl)
set_option maxHeartbeats 4000000 in
theorem m_alRange (l : Launch) (hl : l.stackTraces = false) (g : GE) (A : Nat → Prop) (h : AHT) (al dt i : Nat) (xs : List Nat) (hi : i ≤ xs.length) (ha : AL g h al dt xs) : U_ l g A yJ33_rangeCheckForAdd 1 0 0 [.ref al, .int (nI i)] h (fun v h' => v = none ∧ h = h') noX := by
  refine U_.of (own := RJ33) (cc := cJ33_rangeCheckForAdd) (L := 2) (ret := (none)) hl rfl (plainFor_of_name (by decide)) ⟨by decide, by decide⟩ q1604 q126 (by decide) (fun e => absurd e (by decide)) (Nat.le_of_ble_eq_true rfl) (fun κ cx => ?_)
  show V g A κ _ _ 0 0 h 0 [(0, .ref al), (1, .int (nI i))] []
  obtain ⟨md, f, e1, e2, e3, e4⟩ := ha
  refine V.iload_n cx dJ33_rangeCheckForAdd_0 rfl 1 rfl ?_
  refine V.aload_n cx dJ33_rangeCheckForAdd_1 rfl 0 rfl ?_
  refine V.get cx kJ33 e1 2 (by decide) q305 rfl rfl dJ33_rangeCheckForAdd_2 ?_
  refine V.nicmp_gt (a := i) (b := xs.length) (tgt := 12) cx (by omega) (by omega) dJ33_rangeCheckForAdd_5 (by decide) (fun c_5 => ?_) (fun c_5 => ?_)
  · omega
  · refine V.iload_n cx dJ33_rangeCheckForAdd_8 rfl 1 rfl ?_
    refine V.nif_ge (a := i) (tgt := 25) cx (by omega) dJ33_rangeCheckForAdd_9 (by decide) ?_
    exact V.vreturn cx rfl ⟨rfl, rfl⟩ (by decide) (by decide) dJ33_rangeCheckForAdd_25
abbrev cJ33_add_3 : ByteArray := prog_50_method_26_code
def yJ33_add_3 : MethodName := ⟨RJ33, "add", "(ILjava/lang/Object;)V"⟩
def dkwJ33_add_3_2 : List UInt8 := [29, 27, 100, 184, 0, 112, 25, 4, 27, 44, 83, 42, 29, 4, 96, 181, 0, 48, 177]
abbrev dktJ33_add_3_2 : List UInt8 := dkwJ33_add_3_2 ++ []
def dkwJ33_add_3_1 : List UInt8 := [180, 0, 9, 89, 58, 4, 190, 160, 0, 9, 42, 182, 0, 129, 58, 4, 25, 4, 27, 25, 4, 27, 4, 96]
abbrev dktJ33_add_3_1 : List UInt8 := dkwJ33_add_3_1 ++ dktJ33_add_3_2
def dkwJ33_add_3_0 : List UInt8 := [42, 27, 182, 0, 135, 42, 89, 180, 0, 63, 4, 96, 181, 0, 63, 42, 180, 0, 48, 89, 62, 42]
abbrev dktJ33_add_3_0 : List UInt8 := dkwJ33_add_3_0 ++ dktJ33_add_3_1
theorem dksJ33_add_3_0 : cJ33_add_3.data.toList.drop 0 = dktJ33_add_3_0 := by decide +kernel
theorem dksJ33_add_3_1 : cJ33_add_3.data.toList.drop 22 = dktJ33_add_3_1 := dk_seg dksJ33_add_3_0 22 rfl rfl
theorem dksJ33_add_3_2 : cJ33_add_3.data.toList.drop 46 = dktJ33_add_3_2 := dk_seg dksJ33_add_3_1 24 rfl rfl
theorem dJ33_add_3_0 : decode cJ33_add_3 0 = .ok (.aload_n 0, 1) := dk_42 (dk_at dksJ33_add_3_0 0 rfl rfl)
theorem dJ33_add_3_1 : decode cJ33_add_3 1 = .ok (.iload_n 1, 1) := dk_27 (dk_at dksJ33_add_3_0 1 rfl rfl)
theorem dJ33_add_3_2 : decode cJ33_add_3 2 = .ok (.invokevirtual 135, 3) := dk_182 0 135 (dk_at dksJ33_add_3_0 2 rfl rfl)
theorem dJ33_add_3_5 : decode cJ33_add_3 5 = .ok (.aload_n 0, 1) := dk_42 (dk_at dksJ33_add_3_0 5 rfl rfl)
theorem dJ33_add_3_6 : decode cJ33_add_3 6 = .ok (.dup, 1) := dk_89 (dk_at dksJ33_add_3_0 6 rfl rfl)
theorem dJ33_add_3_7 : decode cJ33_add_3 7 = .ok (.getfield 63, 3) := dk_180 0 63 (dk_at dksJ33_add_3_0 7 rfl rfl)
theorem dJ33_add_3_10 : decode cJ33_add_3 10 = .ok (.iconst 1, 1) := dk_4 (dk_at dksJ33_add_3_0 10 rfl rfl)
theorem dJ33_add_3_11 : decode cJ33_add_3 11 = .ok (.iadd, 1) := dk_96 (dk_at dksJ33_add_3_0 11 rfl rfl)
theorem dJ33_add_3_12 : decode cJ33_add_3 12 = .ok (.putfield 63, 3) := dk_181 0 63 (dk_at dksJ33_add_3_0 12 rfl rfl)
theorem dJ33_add_3_15 : decode cJ33_add_3 15 = .ok (.aload_n 0, 1) := dk_42 (dk_at dksJ33_add_3_0 15 rfl rfl)
theorem dJ33_add_3_16 : decode cJ33_add_3 16 = .ok (.getfield 48, 3) := dk_180 0 48 (dk_at dksJ33_add_3_0 16 rfl rfl)
theorem dJ33_add_3_19 : decode cJ33_add_3 19 = .ok (.dup, 1) := dk_89 (dk_at dksJ33_add_3_0 19 rfl rfl)
theorem dJ33_add_3_20 : decode cJ33_add_3 20 = .ok (.istore_n 3, 1) := dk_62 (dk_at dksJ33_add_3_0 20 rfl rfl)
theorem dJ33_add_3_21 : decode cJ33_add_3 21 = .ok (.aload_n 0, 1) := dk_42 (dk_at dksJ33_add_3_0 21 rfl rfl)
theorem dJ33_add_3_22 : decode cJ33_add_3 22 = .ok (.getfield 9, 3) := dk_180 0 9 (dk_at dksJ33_add_3_1 0 rfl rfl)
theorem dJ33_add_3_25 : decode cJ33_add_3 25 = .ok (.dup, 1) := dk_89 (dk_at dksJ33_add_3_1 3 rfl rfl)
theorem dJ33_add_3_26 : decode cJ33_add_3 26 = .ok (.astore 4, 2) := dk_58 4 (dk_at dksJ33_add_3_1 4 rfl rfl)
theorem dJ33_add_3_28 : decode cJ33_add_3 28 = .ok (.arraylength, 1) := dk_190 (dk_at dksJ33_add_3_1 6 rfl rfl)
theorem dJ33_add_3_29 : decode cJ33_add_3 29 = .ok (.if_icmp .ne 9, 3) := dk_160 0 9 (dk_at dksJ33_add_3_1 7 rfl rfl)
theorem dJ33_add_3_32 : decode cJ33_add_3 32 = .ok (.aload_n 0, 1) := dk_42 (dk_at dksJ33_add_3_1 10 rfl rfl)
theorem dJ33_add_3_33 : decode cJ33_add_3 33 = .ok (.invokevirtual 129, 3) := dk_182 0 129 (dk_at dksJ33_add_3_1 11 rfl rfl)
theorem dJ33_add_3_36 : decode cJ33_add_3 36 = .ok (.astore 4, 2) := dk_58 4 (dk_at dksJ33_add_3_1 14 rfl rfl)
theorem dJ33_add_3_38 : decode cJ33_add_3 38 = .ok (.aload 4, 2) := dk_25 4 (dk_at dksJ33_add_3_1 16 rfl rfl)
theorem dJ33_add_3_40 : decode cJ33_add_3 40 = .ok (.iload_n 1, 1) := dk_27 (dk_at dksJ33_add_3_1 18 rfl rfl)
theorem dJ33_add_3_41 : decode cJ33_add_3 41 = .ok (.aload 4, 2) := dk_25 4 (dk_at dksJ33_add_3_1 19 rfl rfl)
theorem dJ33_add_3_43 : decode cJ33_add_3 43 = .ok (.iload_n 1, 1) := dk_27 (dk_at dksJ33_add_3_1 21 rfl rfl)
theorem dJ33_add_3_44 : decode cJ33_add_3 44 = .ok (.iconst 1, 1) := dk_4 (dk_at dksJ33_add_3_1 22 rfl rfl)
theorem dJ33_add_3_45 : decode cJ33_add_3 45 = .ok (.iadd, 1) := dk_96 (dk_at dksJ33_add_3_1 23 rfl rfl)
theorem dJ33_add_3_46 : decode cJ33_add_3 46 = .ok (.iload_n 3, 1) := dk_29 (dk_at dksJ33_add_3_2 0 rfl rfl)
theorem dJ33_add_3_47 : decode cJ33_add_3 47 = .ok (.iload_n 1, 1) := dk_27 (dk_at dksJ33_add_3_2 1 rfl rfl)
theorem dJ33_add_3_48 : decode cJ33_add_3 48 = .ok (.isub, 1) := dk_100 (dk_at dksJ33_add_3_2 2 rfl rfl)
theorem dJ33_add_3_49 : decode cJ33_add_3 49 = .ok (.invokestatic 112, 3) := dk_184 0 112 (dk_at dksJ33_add_3_2 3 rfl rfl)
theorem dJ33_add_3_52 : decode cJ33_add_3 52 = .ok (.aload 4, 2) := dk_25 4 (dk_at dksJ33_add_3_2 6 rfl rfl)
theorem dJ33_add_3_54 : decode cJ33_add_3 54 = .ok (.iload_n 1, 1) := dk_27 (dk_at dksJ33_add_3_2 8 rfl rfl)
theorem dJ33_add_3_55 : decode cJ33_add_3 55 = .ok (.aload_n 2, 1) := dk_44 (dk_at dksJ33_add_3_2 9 rfl rfl)
theorem dJ33_add_3_56 : decode cJ33_add_3 56 = .ok (.aastore, 1) := dk_83 (dk_at dksJ33_add_3_2 10 rfl rfl)
theorem dJ33_add_3_57 : decode cJ33_add_3 57 = .ok (.aload_n 0, 1) := dk_42 (dk_at dksJ33_add_3_2 11 rfl rfl)
theorem dJ33_add_3_58 : decode cJ33_add_3 58 = .ok (.iload_n 3, 1) := dk_29 (dk_at dksJ33_add_3_2 12 rfl rfl)
theorem dJ33_add_3_59 : decode cJ33_add_3 59 = .ok (.iconst 1, 1) := dk_4 (dk_at dksJ33_add_3_2 13 rfl rfl)
theorem dJ33_add_3_60 : decode cJ33_add_3 60 = .ok (.iadd, 1) := dk_96 (dk_at dksJ33_add_3_2 14 rfl rfl)
theorem dJ33_add_3_61 : decode cJ33_add_3 61 = .ok (.putfield 48, 3) := dk_181 0 48 (dk_at dksJ33_add_3_2 15 rfl rfl)
theorem dJ33_add_3_64 : decode cJ33_add_3 64 = .ok (.return_, 1) := dk_177 (dk_at dksJ33_add_3_2 18 rfl rfl)
set_option maxHeartbeats 4000000 in
theorem m_alIns (l : Launch) (hl : l.stackTraces = false) (g : GE) (A : Nat → Prop) (h : AHT) (al dt x : Nat) (L1 L2 : List Nat) (hlen : (L1 ++ L2).length ≤ 21) (ha : AL g h al dt (L1 ++ L2)) (C : String) (hC : Cond.castable C "java/lang/Object" ∈ lw_tbl) (hel : ∀ y ∈ L1 ++ L2, Rv g h y C) (hx : Rv g h x C) : U_ l g A yJ33_add_3 6 (grC (L1 ++ L2).length) (grS (L1 ++ L2).length) [.ref al, .int (nI L1.length), .ref x] h (fun v h' => v = none ∧ ∃ dt', AL g h' al dt' (L1 ++ x :: L2) ∧ (dt' = dt ∨ h dt' = none) ∧ Off [al, dt] h h') noX := by
  refine U_.of (own := RJ33) (cc := cJ33_add_3) (L := 5) (ret := (none)) hl rfl (plainFor_of_name (by decide)) ⟨by decide, by decide⟩ q1600 q126 (by decide) (fun e => absurd e (by decide)) (Nat.le_of_ble_eq_true rfl) (fun κ cx => ?_)
  show V g A κ _ _ 0 0 h 0 [(0, .ref al), (1, .int (nI L1.length)), (2, .ref x)] []
  have ha0 := ha
  obtain ⟨md, f, e1, e2, e3, e4⟩ := ha
  refine V.aload_n cx dJ33_add_3_0 rfl 0 rfl ?_
  refine V.iload_n cx dJ33_add_3_1 rfl 1 rfl ?_
  refine V.callV (As := [.int (nI L1.length)]) (rest := []) (C := "java/util/ArrayList") cx (m_alRange l hl g A h al dt L1.length (L1 ++ L2) (by rw [List.length_append]; omega) ha0) rfl q1601 q1603 qs13 (Rv.of kJ33 e1) (na := 1) rfl (by decide +kernel) (Nat.le_of_ble_eq_true rfl) (by decide) (by omega) (by omega) rfl dJ33_add_3_2 (fun _ _ _ hx => hx.elim) (fun v1 h2 hp => ?_)
  obtain ⟨rfl, rfl⟩ := hp
  show V g A κ _ _ 0 0 h 5 [(0, .ref al), (1, .int (nI L1.length)), (2, .ref x)] []
  rcases e4 with ⟨hnil, rfl⟩ | ⟨e4, e5⟩
  · obtain ⟨rfl, rfl⟩ := List.append_eq_nil_iff.mp hnil
    show V g A κ _ _ 0 0 h 5 [(0, .ref al), (1, .int (nI 0)), (2, .ref x)] []
    refine V.aload_n cx dJ33_add_3_5 rfl 0 rfl ?_
    refine V.dup cx dJ33_add_3_6 rfl ?_
    refine V.getS cx kJ33 e1 0 (by decide) q309 q308 rfl dJ33_add_3_7 ?_
    refine V.iconst (v := (nI 1)) cx dJ33_add_3_10 (by decide) ?_
    refine V.iadd cx dJ33_add_3_11 ?_
    refine V.putS (ty := tyJ33 0) cx kJ33 e1 0 (by decide) rfl (tyJ33_ok 0 (by decide)) rfl rfl (Nat.le_of_ble_eq_true rfl) q309 q308 dJ33_add_3_12 ?_
    show V g A κ _ _ 0 0 (up h al (ob 20 [.int (md + (nI 1)), .ref (g.ad 4 3), .int (nI 0)])) 15 [(0, .ref al), (1, .int (nI 0)), (2, .ref x)] []
    refine V.aload_n cx dJ33_add_3_15 rfl 0 rfl ?_
    refine V.get cx kJ33 up_s 2 (by decide) q305 rfl rfl dJ33_add_3_16 ?_
    refine V.dup cx dJ33_add_3_19 rfl ?_
    refine V.istore_n (lv' := [(3, .int (nI 0)), (0, .ref al), (1, .int (nI 0)), (2, .ref x)]) cx dJ33_add_3_20 rfl (by decide) rfl ?_
    refine V.aload_n cx dJ33_add_3_21 rfl 1 rfl ?_
    refine V.get cx kJ33 up_s 1 (by decide) q302 rfl rfl dJ33_add_3_22 ?_
    refine V.dup cx dJ33_add_3_25 rfl ?_
    refine V.astore (lv' := [(4, .ref (g.ad 4 3)), (3, .int (nI 0)), (0, .ref al), (1, .int (nI 0)), (2, .ref x)]) cx dJ33_add_3_26 (by decide) rfl ?_
    refine V.alenR cx cx.gok.2.2.2.2.2.1 dJ33_add_3_28 ?_
    refine V.nicmp_ne (a := 0) (b := 0) (tgt := 38) cx (by decide) (by decide) dJ33_add_3_29 (by decide) (fun c_29 => ?_) (fun c_29 => ?_)
    · exact absurd rfl c_29
    · refine V.aload_n cx dJ33_add_3_32 rfl 2 rfl ?_
      refine V.callV (As := []) (rest := []) (C := "java/util/ArrayList") cx (m_alGrow l hl g A (up h al (ob 20 [.int (md + (nI 1)), .ref (g.ad 4 3), .int (nI 0)])) al (g.ad 4 3) [] _ f up_s e2 (Or.inl ⟨rfl, rfl⟩) (Or.inl rfl) C hC (fun y hy => absurd hy List.not_mem_nil)) rfl q570 q572 qs2 (Rv.of kJ33 up_s) (na := 0) rfl (by decide +kernel) (Nat.le_of_ble_eq_true rfl) (by decide) (by decide) (by decide) rfl dJ33_add_3_33 (fun _ _ _ hx => hx.elim) (fun v3 h4 hp => ?_)
      obtain ⟨q, f', rfl, p1, p2, p3, p4, p5⟩ := hp
      show V g A κ _ _ 1 10 h4 36 [(4, .ref (g.ad 4 3)), (3, .int (nI 0)), (0, .ref al), (1, .int (nI 0)), (2, .ref x)] [.ref q]
      have p3' : h4 q = some (aQ g 5 10 f') := p3
      have p1' : h q = none := by by_cases y : q = al; rw [y, up_s] at p1; cases p1; rw [up_n y] at p1; exact p1
      have hx1 : Rv g h4 x C := by
        by_cases e : x = al
        · subst e; rcases hx with ⟨c1, N, T, f1, z1, z2⟩ | z
          · rw [e1] at z1; cases z1; exact Or.inl ⟨_, N, T, _, p2, z2⟩
          · exact Or.inr z
        · exact (hx.put e1).off p5 (by simpa using e)
      refine V.astore (lv' := [(4, .ref q), (3, .int (nI 0)), (0, .ref al), (1, .int (nI 0)), (2, .ref x)]) cx dJ33_add_3_36 (by decide) rfl ?_
      refine V.aload cx dJ33_add_3_38 0 rfl ?_
      refine V.iload_n cx dJ33_add_3_40 rfl 3 rfl ?_
      refine V.aload cx dJ33_add_3_41 0 rfl ?_
      refine V.iload_n cx dJ33_add_3_43 rfl 3 rfl ?_
      refine V.iconst (v := (nI 1)) cx dJ33_add_3_44 (by decide) ?_
      refine V.iadd cx dJ33_add_3_45 ?_
      refine V.toi (nI_add 0 1) ?_
      refine V.iload_n cx dJ33_add_3_46 rfl 1 rfl ?_
      refine V.iload_n cx dJ33_add_3_47 rfl 3 rfl ?_
      refine V.isub cx dJ33_add_3_48 ?_
      refine V.toi (y := nI 0) (by decide) ?_
      refine V.copyq (sp := 0) (dp := 1) (n9 := 0) (t0 := 5) (t1 := 5) cx q1621 q636 q635 q119 p3' p3' rfl rfl rfl rfl rfl (by omega) (by omega) (by omega) (by omega) (fun i hi => absurd hi (Nat.not_lt_zero _)) (by decide) (by decide +kernel) dJ33_add_3_49 ?_
      refine V.aload cx dJ33_add_3_52 0 rfl ?_
      refine V.iload_n cx dJ33_add_3_54 rfl 3 rfl ?_
      refine V.aload_n cx dJ33_add_3_55 rfl 4 rfl ?_
      refine V.aastore (j := 0) (C := C) cx up_s rfl rfl (by decide) (by decide) (hx1.arr p3') (Or.inr hC) dJ33_add_3_56 ?_
      show V g A κ _ _ 1 10 (up (up h4 q (aQ g 5 10 (va_cpy f' f' 0 1 0))) q (aQ g 5 10 (va_up (va_cpy f' f' 0 1 0) 0 (some x)))) 57 [(4, .ref q), (3, .int (nI 0)), (0, .ref al), (1, .int (nI 0)), (2, .ref x)] []
      refine V.aload_n cx dJ33_add_3_57 rfl 2 rfl ?_
      refine V.iload_n cx dJ33_add_3_58 rfl 1 rfl ?_
      refine V.iconst (v := (nI 1)) cx dJ33_add_3_59 (by decide) ?_
      refine V.iadd cx dJ33_add_3_60 ?_
      refine V.toi (nI_add 0 1) ?_
      refine V.put (ty := tyJ33 2) cx kJ33 ((up_n (ne_of e1 p1')).trans ((up_n (ne_of e1 p1')).trans p2)) 2 (by decide) rfl (tyJ33_ok 2 (by decide)) rfl rfl (Nat.le_of_ble_eq_true rfl) q305 rfl dJ33_add_3_61 ?_
      show V g A κ _ _ 1 10 (up (up (up h4 q (aQ g 5 10 (va_cpy f' f' 0 1 0))) q (aQ g 5 10 (va_up (va_cpy f' f' 0 1 0) 0 (some x)))) al (ob 20 [.int (md + nI 1), .ref q, .int (nI 1)])) 64 [(4, .ref q), (3, .int (nI 0)), (0, .ref al), (1, .int (nI 0)), (2, .ref x)] []
      exact V.vreturn cx rfl ⟨rfl, q, ⟨_, _, up_s, fun j hj => al_app (xs := []) (fun j hj => absurd hj (Nat.not_lt_zero _)) j hj, by simp, Or.inr ⟨by simp, (up_n (Ne.symm (ne_of e1 p1'))).trans up_s⟩⟩, Or.inr p1', (((((Off.rf (S := [al, g.ad 4 3])).put (by simp)).trans (Off.mono p5 (by simp))).upn p1').upn p1').put (by simp)⟩ (by decide) (by decide) dJ33_add_3_64
  · have hcb := capOf_b (L1 ++ L2).length
    have hdal : dt ≠ al := fun z => by rw [z, e1] at e5; cases e5
    refine V.aload_n cx dJ33_add_3_5 rfl 0 rfl ?_
    refine V.dup cx dJ33_add_3_6 rfl ?_
    refine V.getS cx kJ33 e1 0 (by decide) q309 q308 rfl dJ33_add_3_7 ?_
    refine V.iconst (v := (nI 1)) cx dJ33_add_3_10 (by decide) ?_
    refine V.iadd cx dJ33_add_3_11 ?_
    refine V.putS (ty := tyJ33 0) cx kJ33 e1 0 (by decide) rfl (tyJ33_ok 0 (by decide)) rfl rfl (Nat.le_of_ble_eq_true rfl) q309 q308 dJ33_add_3_12 ?_
    show V g A κ _ _ 0 0 (up h al (ob 20 [.int (md + (nI 1)), .ref dt, .int (nI ((L1 ++ L2).length))])) 15 [(0, .ref al), (1, .int (nI L1.length)), (2, .ref x)] []
    refine V.aload_n cx dJ33_add_3_15 rfl 0 rfl ?_
    refine V.get cx kJ33 up_s 2 (by decide) q305 rfl rfl dJ33_add_3_16 ?_
    refine V.dup cx dJ33_add_3_19 rfl ?_
    refine V.istore_n (lv' := [(3, .int (nI ((L1 ++ L2).length))), (0, .ref al), (1, .int (nI L1.length)), (2, .ref x)]) cx dJ33_add_3_20 rfl (by decide) rfl ?_
    refine V.aload_n cx dJ33_add_3_21 rfl 1 rfl ?_
    refine V.get cx kJ33 up_s 1 (by decide) q302 rfl rfl dJ33_add_3_22 ?_
    refine V.dup cx dJ33_add_3_25 rfl ?_
    refine V.astore (lv' := [(4, .ref dt), (3, .int (nI ((L1 ++ L2).length))), (0, .ref al), (1, .int (nI L1.length)), (2, .ref x)]) cx dJ33_add_3_26 (by decide) rfl ?_
    refine V.alen (t0 := 5) cx ((up_n (Ne.symm (Ne.symm hdal))).trans e5) rfl dJ33_add_3_28 ?_
    show V g A κ _ _ 0 0 (up h al (ob 20 [.int (md + (nI 1)), .ref dt, .int (nI ((L1 ++ L2).length))])) 29 [(4, .ref dt), (3, .int (nI ((L1 ++ L2).length))), (0, .ref al), (1, .int (nI L1.length)), (2, .ref x)] [.int (nI (capOf (L1 ++ L2).length)), .int (nI ((L1 ++ L2).length))]
    refine V.nicmp_ne (a := (L1 ++ L2).length) (b := (capOf (L1 ++ L2).length)) (tgt := 38) cx (by omega) (by omega) dJ33_add_3_29 (by decide) (fun c_29 => ?_) (fun c_29 => ?_)
    · have hnf : ¬ ((L1 ++ L2).length = 0 ∨ (L1 ++ L2).length = 10 ∨ (L1 ++ L2).length = 15) := by intro z; have := List.length_pos_iff.mpr e4; rcases z with z | z | z <;> rw [z] at c_29 <;> first | omega | exact absurd rfl c_29
      obtain ⟨hlt, hce⟩ := capOf_lt hlen hnf
      have hla := List.length_append (as := L1) (bs := L2)
      have hel1 : ∀ i, i < (L1 ++ L2).length - L1.length → ∀ y, f (L1.length + i) = some y → Rv g (up h al (ob 20 [.int (md + (nI 1)), .ref dt, .int (nI ((L1 ++ L2).length))])) y C := fun i hi y hy => (hel y (by rw [e2 _ (by omega)] at hy; exact List.mem_of_getElem? hy)).put e1
      refine V.aload cx dJ33_add_3_38 0 rfl ?_
      refine V.iload_n cx dJ33_add_3_40 rfl 3 rfl ?_
      refine V.aload cx dJ33_add_3_41 0 rfl ?_
      refine V.iload_n cx dJ33_add_3_43 rfl 3 rfl ?_
      refine V.iconst (v := (nI 1)) cx dJ33_add_3_44 (by decide) ?_
      refine V.iadd cx dJ33_add_3_45 ?_
      refine V.toi (nI_add L1.length 1) ?_
      refine V.iload_n cx dJ33_add_3_46 rfl 1 rfl ?_
      refine V.iload_n cx dJ33_add_3_47 rfl 3 rfl ?_
      refine V.isub cx dJ33_add_3_48 ?_
      refine V.toi (pk_sub (a := (L1 ++ L2).length) (b := L1.length) (by rw [List.length_append]; omega)) ?_
      refine V.copyq (sp := L1.length) (dp := (L1.length + 1)) (n9 := ((L1 ++ L2).length - L1.length)) (t0 := 5) (t1 := 5) cx q1621 q636 q635 q119 ((up_n (Ne.symm (Ne.symm hdal))).trans e5) ((up_n (Ne.symm (Ne.symm hdal))).trans e5) rfl rfl rfl rfl rfl (by omega) (by omega) (by omega) (by omega) (fun i hi y hy => ⟨C, hel1 i hi y hy, hC⟩) (by decide) (by decide +kernel) dJ33_add_3_49 ?_
      refine V.aload cx dJ33_add_3_52 0 rfl ?_
      refine V.iload_n cx dJ33_add_3_54 rfl 3 rfl ?_
      refine V.aload_n cx dJ33_add_3_55 rfl 4 rfl ?_
      refine V.aastore (j := L1.length) (C := C) cx up_s rfl rfl (by rw [List.length_append] at *; omega) (by omega) ((hx.put e1).arr ((up_n hdal).trans e5)) (Or.inr hC) dJ33_add_3_56 ?_
      show V g A κ _ _ 0 0 (up (up (up h al (ob 20 [.int (md + (nI 1)), .ref dt, .int (nI ((L1 ++ L2).length))])) dt (aQ g 5 (capOf (L1 ++ L2).length) (va_cpy f f L1.length (L1.length + 1) ((L1 ++ L2).length - L1.length)))) dt (aQ g 5 (capOf (L1 ++ L2).length) (va_up (va_cpy f f L1.length (L1.length + 1) ((L1 ++ L2).length - L1.length)) L1.length (some x)))) 57 [(4, .ref dt), (3, .int (nI ((L1 ++ L2).length))), (0, .ref al), (1, .int (nI L1.length)), (2, .ref x)] []
      refine V.aload_n cx dJ33_add_3_57 rfl 2 rfl ?_
      refine V.iload_n cx dJ33_add_3_58 rfl 1 rfl ?_
      refine V.iconst (v := (nI 1)) cx dJ33_add_3_59 (by decide) ?_
      refine V.iadd cx dJ33_add_3_60 ?_
      refine V.toi (nI_add ((L1 ++ L2).length) 1) ?_
      refine V.put (ty := tyJ33 2) cx kJ33 ((up_n (Ne.symm hdal)).trans ((up_n (Ne.symm hdal)).trans up_s)) 2 (by decide) rfl (tyJ33_ok 2 (by decide)) rfl rfl (Nat.le_of_ble_eq_true rfl) q305 rfl dJ33_add_3_61 ?_
      show V g A κ _ _ 0 0 (up (up (up (up h al (ob 20 [.int (md + (nI 1)), .ref dt, .int (nI ((L1 ++ L2).length))])) dt (aQ g 5 (capOf (L1 ++ L2).length) (va_cpy f f L1.length (L1.length + 1) ((L1 ++ L2).length - L1.length)))) dt (aQ g 5 (capOf (L1 ++ L2).length) (va_up (va_cpy f f L1.length (L1.length + 1) ((L1 ++ L2).length - L1.length)) L1.length (some x)))) al (ob 20 [.int (md + (nI 1)), .ref dt, .int (nI (((L1 ++ L2).length) + 1))])) 64 [(4, .ref dt), (3, .int (nI ((L1 ++ L2).length))), (0, .ref al), (1, .int (nI L1.length)), (2, .ref x)] []
      exact V.vreturn cx rfl ⟨rfl, dt, ⟨_, _, by rw [show (L1 ++ x :: L2).length = (L1 ++ L2).length + 1 by simp; omega]; exact up_s, al_ins e2, by rw [show (L1 ++ x :: L2).length = (L1 ++ L2).length + 1 by simp; omega]; exact Nat.succ_le_succ hlen, Or.inr ⟨by simp, by rw [show (L1 ++ x :: L2).length = (L1 ++ L2).length + 1 by simp; omega, hce]; exact (up_n hdal).trans up_s⟩⟩, Or.inl rfl, ((((Off.rf (S := [al, dt])).put (by simp)).put (by simp)).put (by simp)).put (by simp)⟩ (by omega) (by omega) dJ33_add_3_64
    · have hfu := capOf_eq hlen c_29
      have hcs := capOf_s hlen
      have hcb2 := capOf_b ((L1 ++ L2).length + 1)
      have hla := List.length_append (as := L1) (bs := L2)
      refine V.aload_n cx dJ33_add_3_32 rfl 2 rfl ?_
      refine V.callV (As := []) (rest := []) (C := "java/util/ArrayList") cx (m_alGrow l hl g A (up h al (ob 20 [.int (md + (nI 1)), .ref dt, .int (nI ((L1 ++ L2).length))])) al dt (L1 ++ L2) _ f up_s e2 (Or.inr ⟨e4, (up_n hdal).trans e5⟩) hfu C hC (fun y hy => (hel y hy).put e1)) rfl q570 q572 qs2 (Rv.of kJ33 up_s) (na := 0) rfl (by decide +kernel) (Nat.le_of_ble_eq_true rfl) (by decide) (by omega) (by omega) rfl dJ33_add_3_33 (fun _ _ _ hx => hx.elim) (fun v5 h6 hp => ?_)
      obtain ⟨q, f', rfl, p1, p2, p3, p4, p5⟩ := hp
      show V g A κ _ _ (0 + grC (L1 ++ L2).length) (0 + grS (L1 ++ L2).length) h6 36 [(4, .ref dt), (3, .int (nI ((L1 ++ L2).length))), (0, .ref al), (1, .int (nI L1.length)), (2, .ref x)] [.ref q]
      have p1' : h q = none := by by_cases y : q = al; rw [y, up_s] at p1; cases p1; rw [up_n y] at p1; exact p1
      have hqal : q ≠ al := Ne.symm (ne_of e1 p1')
      have tr : ∀ z, Rv g h z C → Rv g h6 z C := by
        intro z hx
        by_cases e : z = al
        · subst e; rcases hx with ⟨c1, N, T, f1, z1, z2⟩ | z
          · rw [e1] at z1; cases z1; exact Or.inl ⟨_, N, T, _, p2, z2⟩
          · exact Or.inr z
        · exact (hx.put e1).off p5 (by simpa using e)
      have hel1 : ∀ i, i < (L1 ++ L2).length - L1.length → ∀ y, f' (L1.length + i) = some y → Rv g h6 y C := fun i hi y hy => tr y (hel y (by rw [p4 _ (by omega)] at hy; exact List.mem_of_getElem? hy))
      refine V.astore (lv' := [(4, .ref q), (3, .int (nI ((L1 ++ L2).length))), (0, .ref al), (1, .int (nI L1.length)), (2, .ref x)]) cx dJ33_add_3_36 (by decide) rfl ?_
      refine V.aload cx dJ33_add_3_38 0 rfl ?_
      refine V.iload_n cx dJ33_add_3_40 rfl 3 rfl ?_
      refine V.aload cx dJ33_add_3_41 0 rfl ?_
      refine V.iload_n cx dJ33_add_3_43 rfl 3 rfl ?_
      refine V.iconst (v := (nI 1)) cx dJ33_add_3_44 (by decide) ?_
      refine V.iadd cx dJ33_add_3_45 ?_
      refine V.toi (nI_add L1.length 1) ?_
      refine V.iload_n cx dJ33_add_3_46 rfl 1 rfl ?_
      refine V.iload_n cx dJ33_add_3_47 rfl 3 rfl ?_
      refine V.isub cx dJ33_add_3_48 ?_
      refine V.toi (pk_sub (a := (L1 ++ L2).length) (b := L1.length) (by rw [List.length_append]; omega)) ?_
      refine V.copyq (sp := L1.length) (dp := (L1.length + 1)) (n9 := ((L1 ++ L2).length - L1.length)) (t0 := 5) (t1 := 5) cx q1621 q636 q635 q119 p3 p3 rfl rfl rfl rfl rfl (by omega) (by omega) (by omega) (by omega) (fun i hi y hy => ⟨C, hel1 i hi y hy, hC⟩) (by decide) (by decide +kernel) dJ33_add_3_49 ?_
      refine V.aload cx dJ33_add_3_52 0 rfl ?_
      refine V.iload_n cx dJ33_add_3_54 rfl 3 rfl ?_
      refine V.aload_n cx dJ33_add_3_55 rfl 4 rfl ?_
      refine V.aastore (j := L1.length) (C := C) cx up_s rfl rfl (by rw [List.length_append] at *; omega) (by omega) ((tr x hx).arr p3) (Or.inr hC) dJ33_add_3_56 ?_
      show V g A κ _ _ (0 + grC (L1 ++ L2).length) (0 + grS (L1 ++ L2).length) (up (up h6 q (aQ g 5 (capOf ((L1 ++ L2).length + 1)) (va_cpy f' f' L1.length (L1.length + 1) ((L1 ++ L2).length - L1.length)))) q (aQ g 5 (capOf ((L1 ++ L2).length + 1)) (va_up (va_cpy f' f' L1.length (L1.length + 1) ((L1 ++ L2).length - L1.length)) L1.length (some x)))) 57 [(4, .ref q), (3, .int (nI ((L1 ++ L2).length))), (0, .ref al), (1, .int (nI L1.length)), (2, .ref x)] []
      refine V.aload_n cx dJ33_add_3_57 rfl 2 rfl ?_
      refine V.iload_n cx dJ33_add_3_58 rfl 1 rfl ?_
      refine V.iconst (v := (nI 1)) cx dJ33_add_3_59 (by decide) ?_
      refine V.iadd cx dJ33_add_3_60 ?_
      refine V.toi (nI_add ((L1 ++ L2).length) 1) ?_
      refine V.put (ty := tyJ33 2) cx kJ33 ((up_n (Ne.symm hqal)).trans ((up_n (Ne.symm hqal)).trans p2)) 2 (by decide) rfl (tyJ33_ok 2 (by decide)) rfl rfl (Nat.le_of_ble_eq_true rfl) q305 rfl dJ33_add_3_61 ?_
      show V g A κ _ _ (0 + grC (L1 ++ L2).length) (0 + grS (L1 ++ L2).length) (up (up (up h6 q (aQ g 5 (capOf ((L1 ++ L2).length + 1)) (va_cpy f' f' L1.length (L1.length + 1) ((L1 ++ L2).length - L1.length)))) q (aQ g 5 (capOf ((L1 ++ L2).length + 1)) (va_up (va_cpy f' f' L1.length (L1.length + 1) ((L1 ++ L2).length - L1.length)) L1.length (some x)))) al (ob 20 [.int (md + nI 1), .ref q, .int (nI (((L1 ++ L2).length) + 1))])) 64 [(4, .ref q), (3, .int (nI ((L1 ++ L2).length))), (0, .ref al), (1, .int (nI L1.length)), (2, .ref x)] []
      exact V.vreturn cx rfl ⟨rfl, q, ⟨_, _, by rw [show (L1 ++ x :: L2).length = (L1 ++ L2).length + 1 by simp; omega]; exact up_s, al_ins p4, by rw [show (L1 ++ x :: L2).length = (L1 ++ L2).length + 1 by simp; omega]; exact Nat.succ_le_succ hlen, Or.inr ⟨by simp, by rw [show (L1 ++ x :: L2).length = (L1 ++ L2).length + 1 by simp; omega]; exact (up_n hqal).trans up_s⟩⟩, Or.inr p1', (((((Off.rf (S := [al, dt])).put (by simp)).trans (Off.mono p5 (by simp))).upn p1').upn p1').put (by simp)⟩ (by omega) (by omega) dJ33_add_3_64
/-- the iterator it over the ArrayList al (its array dt, its elements xs) stands before the place i -/
def IT (g : GE) (h : AHT) (it al dt : Nat) (xs : List Nat) (i : Nat) : Prop := ∃ (md lr : Int32) (f : Nat → Option Nat), h al = some (ob 20 [.int md, .ref dt, .int (nI xs.length)]) ∧ (∀ j, j < xs.length → f j = xs[j]?) ∧ xs.length ≤ 22 ∧ ((xs = [] ∧ dt = g.ad 4 3) ∨ (xs ≠ [] ∧ h dt = some (aQ g 5 (capOf xs.length) f))) ∧ h it = some (ob 16 [.int (nI i), .int lr, .int md, .ref al])
theorem IT.al {g : GE} {h : AHT} {it al dt : Nat} {xs : List Nat} {i : Nat} (a : IT g h it al dt xs i) : AL g h al dt xs := by
  obtain ⟨md, lr, f, e1, e2, e3, e4, e5⟩ := a
  exact ⟨md, f, e1, e2, e3, e4⟩
theorem IT.off {g : GE} {S : List Nat} {h h' : AHT} {it al dt : Nat} {xs : List Nat} {i : Nat} (a : IT g h it al dt xs i) (o : Off S h h') (h1 : al ∉ S) (h2 : dt ∉ S) (h3 : it ∉ S) : IT g h' it al dt xs i := by
  obtain ⟨md, lr, f, e1, e2, e3, e4, e5⟩ := a
  exact ⟨md, lr, f, o _ _ h1 e1, e2, e3, e4.imp id (fun z => ⟨z.1, o _ _ h2 z.2⟩), o _ _ h3 e5⟩
abbrev cJ10_init : ByteArray := prog_51_method_1_code
def yJ10_init : MethodName := ⟨RJ10, "<init>", "(Ljava/util/ArrayList;)V"⟩
def dkwJ10_init_1 : List UInt8 := [181, 0, 22, 177]
abbrev dktJ10_init_1 : List UInt8 := dkwJ10_init_1 ++ []
def dkwJ10_init_0 : List UInt8 := [42, 43, 181, 0, 1, 42, 183, 0, 7, 42, 2, 181, 0, 13, 42, 42, 180, 0, 1, 180, 0, 17]
abbrev dktJ10_init_0 : List UInt8 := dkwJ10_init_0 ++ dktJ10_init_1
theorem dksJ10_init_0 : cJ10_init.data.toList.drop 0 = dktJ10_init_0 := by decide +kernel
theorem dksJ10_init_1 : cJ10_init.data.toList.drop 22 = dktJ10_init_1 := dk_seg dksJ10_init_0 22 rfl rfl
theorem dJ10_init_0 : decode cJ10_init 0 = .ok (.aload_n 0, 1) := dk_42 (dk_at dksJ10_init_0 0 rfl rfl)
theorem dJ10_init_1 : decode cJ10_init 1 = .ok (.aload_n 1, 1) := dk_43 (dk_at dksJ10_init_0 1 rfl rfl)
theorem dJ10_init_2 : decode cJ10_init 2 = .ok (.putfield 1, 3) := dk_181 0 1 (dk_at dksJ10_init_0 2 rfl rfl)
theorem dJ10_init_5 : decode cJ10_init 5 = .ok (.aload_n 0, 1) := dk_42 (dk_at dksJ10_init_0 5 rfl rfl)
theorem dJ10_init_6 : decode cJ10_init 6 = .ok (.invokespecial 7, 3) := dk_183 0 7 (dk_at dksJ10_init_0 6 rfl rfl)
theorem dJ10_init_9 : decode cJ10_init 9 = .ok (.aload_n 0, 1) := dk_42 (dk_at dksJ10_init_0 9 rfl rfl)
theorem dJ10_init_10 : decode cJ10_init 10 = .ok (.iconst (-1), 1) := dk_2 (dk_at dksJ10_init_0 10 rfl rfl)
theorem dJ10_init_11 : decode cJ10_init 11 = .ok (.putfield 13, 3) := dk_181 0 13 (dk_at dksJ10_init_0 11 rfl rfl)
theorem dJ10_init_14 : decode cJ10_init 14 = .ok (.aload_n 0, 1) := dk_42 (dk_at dksJ10_init_0 14 rfl rfl)
theorem dJ10_init_15 : decode cJ10_init 15 = .ok (.aload_n 0, 1) := dk_42 (dk_at dksJ10_init_0 15 rfl rfl)
theorem dJ10_init_16 : decode cJ10_init 16 = .ok (.getfield 1, 3) := dk_180 0 1 (dk_at dksJ10_init_0 16 rfl rfl)
theorem dJ10_init_19 : decode cJ10_init 19 = .ok (.getfield 17, 3) := dk_180 0 17 (dk_at dksJ10_init_0 19 rfl rfl)
theorem dJ10_init_22 : decode cJ10_init 22 = .ok (.putfield 22, 3) := dk_181 0 22 (dk_at dksJ10_init_1 0 rfl rfl)
theorem dJ10_init_25 : decode cJ10_init 25 = .ok (.return_, 1) := dk_177 (dk_at dksJ10_init_1 3 rfl rfl)
set_option maxHeartbeats 4000000 in
theorem m_itInit (l : Launch) (hl : l.stackTraces = false) (g : GE) (A : Nat → Prop) (h : AHT) (it al : Nat) (md sz : Int32) (dt : Value) (e1 : h al = some (ob 20 [.int md, dt, .int sz])) (hi : h it = some (ob 16 [.int 0, .int 0, .int 0, .null])) : U_ l g A yJ10_init 2 0 0 [.ref it, .ref al] h (fun v h' => v = none ∧ h' it = some (ob 16 [.int 0, .int (-1), .int md, .ref al]) ∧ Off [it] h h') noX := by
  refine U_.of (own := RJ10) (cc := cJ10_init) (L := 2) (ret := (none)) hl rfl (plainFor_of_name (by decide)) ⟨by decide, by decide⟩ q377 q95 (by decide) (fun _ => rfl) (Nat.le_of_ble_eq_true rfl) (fun κ cx => ?_)
  show V g A κ _ _ 0 0 h 0 [(0, .ref it), (1, .ref al)] []
  refine V.aload_n cx dJ10_init_0 rfl 0 rfl ?_
  refine V.aload_n cx dJ10_init_1 rfl 1 rfl ?_
  refine V.putF (ty := tyJ10 3) cx kJ10 hi 3 (by decide) rfl rfl rfl (tyJ10_ok 3 (by decide)) rfl rfl (Nat.le_of_ble_eq_true rfl) q382 rfl dJ10_init_2 ?_
  show V g A κ _ _ 0 0 (up h it (ob 16 [.int 0, .int 0, .int 0, .ref al])) 5 [(0, .ref it), (1, .ref al)] []
  refine V.aload_n cx dJ10_init_5 rfl 0 rfl ?_
  refine V.objInit cx q378 q140 q141 (by decide) (Nat.le_of_ble_eq_true rfl) dJ10_init_6 ?_
  refine V.aload_n cx dJ10_init_9 rfl 0 rfl ?_
  refine V.iconst (v := (-1)) cx dJ10_init_10 (by decide) ?_
  refine V.put (ty := tyJ10 1) cx kJ10 up_s 1 (by decide) rfl (tyJ10_ok 1 (by decide)) rfl rfl (Nat.le_of_ble_eq_true rfl) q380 rfl dJ10_init_11 ?_
  show V g A κ _ _ 0 0 (up (up h it (ob 16 [.int 0, .int 0, .int 0, .ref al])) it (ob 16 [.int 0, .int (-1), .int 0, .ref al])) 14 [(0, .ref it), (1, .ref al)] []
  refine V.aload_n cx dJ10_init_14 rfl 0 rfl ?_
  refine V.aload_n cx dJ10_init_15 rfl 0 rfl ?_
  refine V.get cx kJ10 up_s 3 (by decide) q382 rfl rfl dJ10_init_16 ?_
  refine V.getS cx kJ33 ((up_n (fun z => by rw [z, hi] at e1; cases e1)).trans ((up_n (fun z => by rw [z, hi] at e1; cases e1)).trans e1)) 0 (by decide) q307 q308 rfl dJ10_init_19 ?_
  refine V.put (ty := tyJ10 2) cx kJ10 up_s 2 (by decide) rfl (tyJ10_ok 2 (by decide)) rfl rfl (Nat.le_of_ble_eq_true rfl) q381 rfl dJ10_init_22 ?_
  show V g A κ _ _ 0 0 (up (up (up h it (ob 16 [.int 0, .int 0, .int 0, .ref al])) it (ob 16 [.int 0, .int (-1), .int 0, .ref al])) it (ob 16 [.int 0, .int (-1), .int md, .ref al])) 25 [(0, .ref it), (1, .ref al)] []
  exact V.vreturn cx rfl ⟨rfl, up_s, ((Off.rf (S := [it])).put (by simp)).put (by simp) |>.put (by simp)⟩ (by decide) (by decide) dJ10_init_25
abbrev cJ33_iterator : ByteArray := prog_50_method_55_code
def yJ33_iterator : MethodName := ⟨RJ33, "iterator", "()Ljava/util/Iterator;"⟩
def dkwJ33_iterator_0 : List UInt8 := [187, 1, 11, 89, 42, 183, 1, 13, 176]
abbrev dktJ33_iterator_0 : List UInt8 := dkwJ33_iterator_0 ++ []
theorem dksJ33_iterator_0 : cJ33_iterator.data.toList.drop 0 = dktJ33_iterator_0 := by decide +kernel
theorem dJ33_iterator_0 : decode cJ33_iterator 0 = .ok (.new 267, 3) := dk_187 1 11 (dk_at dksJ33_iterator_0 0 rfl rfl)
theorem dJ33_iterator_3 : decode cJ33_iterator 3 = .ok (.dup, 1) := dk_89 (dk_at dksJ33_iterator_0 3 rfl rfl)
theorem dJ33_iterator_4 : decode cJ33_iterator 4 = .ok (.aload_n 0, 1) := dk_42 (dk_at dksJ33_iterator_0 4 rfl rfl)
theorem dJ33_iterator_5 : decode cJ33_iterator 5 = .ok (.invokespecial 269, 3) := dk_183 1 13 (dk_at dksJ33_iterator_0 5 rfl rfl)
theorem dJ33_iterator_8 : decode cJ33_iterator 8 = .ok (.areturn, 1) := dk_176 (dk_at dksJ33_iterator_0 8 rfl rfl)
set_option maxHeartbeats 4000000 in
theorem m_alIter (l : Launch) (hl : l.stackTraces = false) (g : GE) (A : Nat → Prop) (h : AHT) (al dt : Nat) (xs : List Nat) (ha : AL g h al dt xs) : U_ l g A yJ33_iterator 3 1 4 [.ref al] h (fun v h' => ∃ it, v = some (.ref it) ∧ h it = none ∧ IT g h' it al dt xs 0 ∧ Ext h h') noX := by
  refine U_.of (own := RJ33) (cc := cJ33_iterator) (L := 1) (ret := (some (Jvm.ClassFile.FieldType.object "java/util/Iterator"))) hl rfl (plainFor_of_name (by decide)) ⟨by decide, by decide⟩ q372 q126 (by decide) (fun e => absurd e (by decide)) (Nat.le_of_ble_eq_true rfl) (fun κ cx => ?_)
  show V g A κ _ _ 0 0 h 0 [(0, .ref al)] []
  obtain ⟨md, f, e1, e2, e3, e4⟩ := ha
  refine V.new (fs := [.int 0, .int 0, .int 0, .null]) cx kJ10 q373 q374 q95 (fun j hj => by rcases (show j = 0 ∨ j = 1 ∨ j = 2 ∨ j = 3 by omega) with rfl | rfl | rfl | rfl <;> rfl) (by decide) (by decide) dJ33_iterator_0 (fun q1 hn_q1 => ?_)
  refine V.dup cx dJ33_iterator_3 rfl ?_
  refine V.aload_n cx dJ33_iterator_4 rfl 0 rfl ?_
  refine V.callI (As := [.ref al]) (rest := [.ref q1]) cx (m_itInit l hl g A _ q1 al _ _ _ ((up_n (ne_of e1 hn_q1)).trans e1) up_s) q375 q376 rfl (na := 1) rfl (by decide +kernel) (Nat.le_of_ble_eq_true rfl) (by decide) (by decide) (by decide) rfl dJ33_iterator_5 (fun _ _ _ hx => hx.elim) (fun v2 h3 hp => ?_)
  obtain ⟨rfl, p1, p2⟩ := hp
  show V g A κ _ _ 1 4 h3 8 [(0, .ref al)] [.ref q1]
  have hx : Ext h h3 := fun a c hc => p2 a c (by simpa using ne_of hc hn_q1) (up_o hc hn_q1)
  exact V.areturn cx rfl (Or.inl ⟨_, rfl⟩) ⟨q1, rfl, hn_q1, ⟨md, _, f, hx _ _ e1, e2, e3, e4.imp id (fun z => ⟨z.1, hx _ _ z.2⟩), p1⟩, hx⟩ (by decide) (by decide) dJ33_iterator_8
abbrev cJ10_hasNext : ByteArray := prog_51_method_2_code
def yJ10_hasNext : MethodName := ⟨RJ10, "hasNext", "()Z"⟩
def dkwJ10_hasNext_0 : List UInt8 := [42, 180, 0, 25, 42, 180, 0, 1, 180, 0, 28, 159, 0, 7, 4, 167, 0, 4, 3, 172]
abbrev dktJ10_hasNext_0 : List UInt8 := dkwJ10_hasNext_0 ++ []
theorem dksJ10_hasNext_0 : cJ10_hasNext.data.toList.drop 0 = dktJ10_hasNext_0 := by decide +kernel
theorem dJ10_hasNext_0 : decode cJ10_hasNext 0 = .ok (.aload_n 0, 1) := dk_42 (dk_at dksJ10_hasNext_0 0 rfl rfl)
theorem dJ10_hasNext_1 : decode cJ10_hasNext 1 = .ok (.getfield 25, 3) := dk_180 0 25 (dk_at dksJ10_hasNext_0 1 rfl rfl)
theorem dJ10_hasNext_4 : decode cJ10_hasNext 4 = .ok (.aload_n 0, 1) := dk_42 (dk_at dksJ10_hasNext_0 4 rfl rfl)
theorem dJ10_hasNext_5 : decode cJ10_hasNext 5 = .ok (.getfield 1, 3) := dk_180 0 1 (dk_at dksJ10_hasNext_0 5 rfl rfl)
theorem dJ10_hasNext_8 : decode cJ10_hasNext 8 = .ok (.getfield 28, 3) := dk_180 0 28 (dk_at dksJ10_hasNext_0 8 rfl rfl)
theorem dJ10_hasNext_11 : decode cJ10_hasNext 11 = .ok (.if_icmp .eq 7, 3) := dk_159 0 7 (dk_at dksJ10_hasNext_0 11 rfl rfl)
theorem dJ10_hasNext_14 : decode cJ10_hasNext 14 = .ok (.iconst 1, 1) := dk_4 (dk_at dksJ10_hasNext_0 14 rfl rfl)
theorem dJ10_hasNext_15 : decode cJ10_hasNext 15 = .ok (.goto 4, 3) := dk_167 0 4 (dk_at dksJ10_hasNext_0 15 rfl rfl)
theorem dJ10_hasNext_18 : decode cJ10_hasNext 18 = .ok (.iconst 0, 1) := dk_3 (dk_at dksJ10_hasNext_0 18 rfl rfl)
theorem dJ10_hasNext_19 : decode cJ10_hasNext 19 = .ok (.ireturn, 1) := dk_172 (dk_at dksJ10_hasNext_0 19 rfl rfl)
set_option maxHeartbeats 4000000 in
theorem m_itHasNext (l : Launch) (hl : l.stackTraces = false) (g : GE) (A : Nat → Prop) (h : AHT) (it al dt : Nat) (xs : List Nat) (i : Nat) (hi : i ≤ xs.length) (ha : IT g h it al dt xs i) : U_ l g A yJ10_hasNext 1 0 0 [.ref it] h (fun v h' => v = some (.int (b2 (decide (i < xs.length)))) ∧ h = h') noX := by
  refine U_.of (own := RJ10) (cc := cJ10_hasNext) (L := 1) (ret := (some Jvm.ClassFile.FieldType.boolean)) hl rfl (plainFor_of_name (by decide)) ⟨by decide, by decide⟩ q439 q95 (by decide) (fun e => absurd e (by decide)) (Nat.le_of_ble_eq_true rfl) (fun κ cx => ?_)
  show V g A κ _ _ 0 0 h 0 [(0, .ref it)] []
  obtain ⟨md, lr, f, e1, e2, e3, e4, e5⟩ := ha
  refine V.aload_n cx dJ10_hasNext_0 rfl 0 rfl ?_
  refine V.get cx kJ10 e5 0 (by decide) q379 rfl rfl dJ10_hasNext_1 ?_
  refine V.aload_n cx dJ10_hasNext_4 rfl 0 rfl ?_
  refine V.get cx kJ10 e5 3 (by decide) q382 rfl rfl dJ10_hasNext_5 ?_
  refine V.getN cx kJ33 e1 2 (by decide) q304 rfl rfl dJ10_hasNext_8 ?_
  refine V.nicmp_eq (a := i) (b := xs.length) (tgt := 18) cx (by omega) (by omega) dJ10_hasNext_11 (by decide) (fun c_11 => ?_) (fun c_11 => ?_)
  · refine V.iconst (v := (nI 0)) cx dJ10_hasNext_18 (by decide) ?_
    refine V.toi (y := b2 (decide (i < xs.length))) (by rw [decide_eq_false (by omega)]; rfl) ?_
    exact V.ireturn (x := (b2 (decide (i < xs.length)))) cx rfl b2_narrow ⟨rfl, rfl⟩ (by decide) (by decide) dJ10_hasNext_19
  · refine V.iconst (v := (nI 1)) cx dJ10_hasNext_14 (by decide) ?_
    refine V.goto (tgt := 19) cx dJ10_hasNext_15 (by decide) ?_
    refine V.toi (y := b2 (decide (i < xs.length))) (by rw [decide_eq_true (by omega)]; rfl) ?_
    exact V.ireturn (x := (b2 (decide (i < xs.length)))) cx rfl b2_narrow ⟨rfl, rfl⟩ (by decide) (by decide) dJ10_hasNext_19
abbrev cJ10_checkForComodification : ByteArray := prog_51_method_6_code
def yJ10_checkForComodification : MethodName := ⟨RJ10, "checkForComodification", "()V"⟩
def dkwJ10_checkForComodification_0 : List UInt8 := [42, 180, 0, 1, 180, 0, 17, 42, 180, 0, 22, 159, 0, 11, 187, 0, 41, 89, 183, 0, 43, 191, 177]
abbrev dktJ10_checkForComodification_0 : List UInt8 := dkwJ10_checkForComodification_0 ++ []
theorem dksJ10_checkForComodification_0 : cJ10_checkForComodification.data.toList.drop 0 = dktJ10_checkForComodification_0 := by decide +kernel
theorem dJ10_checkForComodification_0 : decode cJ10_checkForComodification 0 = .ok (.aload_n 0, 1) := dk_42 (dk_at dksJ10_checkForComodification_0 0 rfl rfl)
theorem dJ10_checkForComodification_1 : decode cJ10_checkForComodification 1 = .ok (.getfield 1, 3) := dk_180 0 1 (dk_at dksJ10_checkForComodification_0 1 rfl rfl)
theorem dJ10_checkForComodification_4 : decode cJ10_checkForComodification 4 = .ok (.getfield 17, 3) := dk_180 0 17 (dk_at dksJ10_checkForComodification_0 4 rfl rfl)
theorem dJ10_checkForComodification_7 : decode cJ10_checkForComodification 7 = .ok (.aload_n 0, 1) := dk_42 (dk_at dksJ10_checkForComodification_0 7 rfl rfl)
theorem dJ10_checkForComodification_8 : decode cJ10_checkForComodification 8 = .ok (.getfield 22, 3) := dk_180 0 22 (dk_at dksJ10_checkForComodification_0 8 rfl rfl)
theorem dJ10_checkForComodification_11 : decode cJ10_checkForComodification 11 = .ok (.if_icmp .eq 11, 3) := dk_159 0 11 (dk_at dksJ10_checkForComodification_0 11 rfl rfl)
theorem dJ10_checkForComodification_14 : decode cJ10_checkForComodification 14 = .ok (.new 41, 3) := dk_187 0 41 (dk_at dksJ10_checkForComodification_0 14 rfl rfl)
theorem dJ10_checkForComodification_17 : decode cJ10_checkForComodification 17 = .ok (.dup, 1) := dk_89 (dk_at dksJ10_checkForComodification_0 17 rfl rfl)
theorem dJ10_checkForComodification_18 : decode cJ10_checkForComodification 18 = .ok (.invokespecial 43, 3) := dk_183 0 43 (dk_at dksJ10_checkForComodification_0 18 rfl rfl)
theorem dJ10_checkForComodification_21 : decode cJ10_checkForComodification 21 = .ok (.athrow, 1) := dk_191 (dk_at dksJ10_checkForComodification_0 21 rfl rfl)
theorem dJ10_checkForComodification_22 : decode cJ10_checkForComodification 22 = .ok (.return_, 1) := dk_177 (dk_at dksJ10_checkForComodification_0 22 rfl rfl)
set_option maxHeartbeats 4000000 in
theorem m_itCheck (l : Launch) (hl : l.stackTraces = false) (g : GE) (A : Nat → Prop) (h : AHT) (it al dt : Nat) (xs : List Nat) (i : Nat) (ha : IT g h it al dt xs i) : U_ l g A yJ10_checkForComodification 1 0 0 [.ref it] h (fun v h' => v = none ∧ h = h') noX := by
  refine U_.of (own := RJ10) (cc := cJ10_checkForComodification) (L := 1) (ret := (none)) hl rfl (plainFor_of_name (by decide)) ⟨by decide, by decide⟩ q538 q95 (by decide) (fun e => absurd e (by decide)) (Nat.le_of_ble_eq_true rfl) (fun κ cx => ?_)
  show V g A κ _ _ 0 0 h 0 [(0, .ref it)] []
  obtain ⟨md, lr, f, e1, e2, e3, e4, e5⟩ := ha
  refine V.aload_n cx dJ10_checkForComodification_0 rfl 0 rfl ?_
  refine V.get cx kJ10 e5 3 (by decide) q382 rfl rfl dJ10_checkForComodification_1 ?_
  refine V.getS cx kJ33 e1 0 (by decide) q307 q308 rfl dJ10_checkForComodification_4 ?_
  refine V.aload_n cx dJ10_checkForComodification_7 rfl 0 rfl ?_
  refine V.get cx kJ10 e5 2 (by decide) q381 rfl rfl dJ10_checkForComodification_8 ?_
  refine V.icmp_eq (tgt := 22) cx dJ10_checkForComodification_11 (by decide) (fun c_11 => ?_) (fun c_11 => ?_)
  · exact V.vreturn cx rfl ⟨rfl, rfl⟩ (by decide) (by decide) dJ10_checkForComodification_22
  · exact absurd rfl c_11
abbrev cJ10_next : ByteArray := prog_51_method_3_code
def yJ10_next : MethodName := ⟨RJ10, "next", "()Ljava/lang/Object;"⟩
def dkwJ10_next_2 : List UInt8 := [183, 0, 43, 191, 42, 27, 4, 96, 181, 0, 25, 44, 42, 27, 90, 181, 0, 13, 50, 176]
abbrev dktJ10_next_2 : List UInt8 := dkwJ10_next_2 ++ []
def dkwJ10_next_1 : List UInt8 := [183, 0, 36, 191, 42, 180, 0, 1, 180, 0, 37, 77, 27, 44, 190, 161, 0, 11, 187, 0, 41, 89]
abbrev dktJ10_next_1 : List UInt8 := dkwJ10_next_1 ++ dktJ10_next_2
def dkwJ10_next_0 : List UInt8 := [42, 182, 0, 31, 42, 180, 0, 25, 60, 27, 42, 180, 0, 1, 180, 0, 28, 161, 0, 11, 187, 0, 34, 89]
abbrev dktJ10_next_0 : List UInt8 := dkwJ10_next_0 ++ dktJ10_next_1
theorem dksJ10_next_0 : cJ10_next.data.toList.drop 0 = dktJ10_next_0 := by decide +kernel
theorem dksJ10_next_1 : cJ10_next.data.toList.drop 24 = dktJ10_next_1 := dk_seg dksJ10_next_0 24 rfl rfl
theorem dksJ10_next_2 : cJ10_next.data.toList.drop 46 = dktJ10_next_2 := dk_seg dksJ10_next_1 22 rfl rfl
theorem dJ10_next_0 : decode cJ10_next 0 = .ok (.aload_n 0, 1) := dk_42 (dk_at dksJ10_next_0 0 rfl rfl)
theorem dJ10_next_1 : decode cJ10_next 1 = .ok (.invokevirtual 31, 3) := dk_182 0 31 (dk_at dksJ10_next_0 1 rfl rfl)
theorem dJ10_next_4 : decode cJ10_next 4 = .ok (.aload_n 0, 1) := dk_42 (dk_at dksJ10_next_0 4 rfl rfl)
theorem dJ10_next_5 : decode cJ10_next 5 = .ok (.getfield 25, 3) := dk_180 0 25 (dk_at dksJ10_next_0 5 rfl rfl)
theorem dJ10_next_8 : decode cJ10_next 8 = .ok (.istore_n 1, 1) := dk_60 (dk_at dksJ10_next_0 8 rfl rfl)
theorem dJ10_next_9 : decode cJ10_next 9 = .ok (.iload_n 1, 1) := dk_27 (dk_at dksJ10_next_0 9 rfl rfl)
theorem dJ10_next_10 : decode cJ10_next 10 = .ok (.aload_n 0, 1) := dk_42 (dk_at dksJ10_next_0 10 rfl rfl)
theorem dJ10_next_11 : decode cJ10_next 11 = .ok (.getfield 1, 3) := dk_180 0 1 (dk_at dksJ10_next_0 11 rfl rfl)
theorem dJ10_next_14 : decode cJ10_next 14 = .ok (.getfield 28, 3) := dk_180 0 28 (dk_at dksJ10_next_0 14 rfl rfl)
theorem dJ10_next_17 : decode cJ10_next 17 = .ok (.if_icmp .lt 11, 3) := dk_161 0 11 (dk_at dksJ10_next_0 17 rfl rfl)
theorem dJ10_next_20 : decode cJ10_next 20 = .ok (.new 34, 3) := dk_187 0 34 (dk_at dksJ10_next_0 20 rfl rfl)
theorem dJ10_next_23 : decode cJ10_next 23 = .ok (.dup, 1) := dk_89 (dk_at dksJ10_next_0 23 rfl rfl)
theorem dJ10_next_24 : decode cJ10_next 24 = .ok (.invokespecial 36, 3) := dk_183 0 36 (dk_at dksJ10_next_1 0 rfl rfl)
theorem dJ10_next_27 : decode cJ10_next 27 = .ok (.athrow, 1) := dk_191 (dk_at dksJ10_next_1 3 rfl rfl)
theorem dJ10_next_28 : decode cJ10_next 28 = .ok (.aload_n 0, 1) := dk_42 (dk_at dksJ10_next_1 4 rfl rfl)
theorem dJ10_next_29 : decode cJ10_next 29 = .ok (.getfield 1, 3) := dk_180 0 1 (dk_at dksJ10_next_1 5 rfl rfl)
theorem dJ10_next_32 : decode cJ10_next 32 = .ok (.getfield 37, 3) := dk_180 0 37 (dk_at dksJ10_next_1 8 rfl rfl)
theorem dJ10_next_35 : decode cJ10_next 35 = .ok (.astore_n 2, 1) := dk_77 (dk_at dksJ10_next_1 11 rfl rfl)
theorem dJ10_next_36 : decode cJ10_next 36 = .ok (.iload_n 1, 1) := dk_27 (dk_at dksJ10_next_1 12 rfl rfl)
theorem dJ10_next_37 : decode cJ10_next 37 = .ok (.aload_n 2, 1) := dk_44 (dk_at dksJ10_next_1 13 rfl rfl)
theorem dJ10_next_38 : decode cJ10_next 38 = .ok (.arraylength, 1) := dk_190 (dk_at dksJ10_next_1 14 rfl rfl)
theorem dJ10_next_39 : decode cJ10_next 39 = .ok (.if_icmp .lt 11, 3) := dk_161 0 11 (dk_at dksJ10_next_1 15 rfl rfl)
theorem dJ10_next_42 : decode cJ10_next 42 = .ok (.new 41, 3) := dk_187 0 41 (dk_at dksJ10_next_1 18 rfl rfl)
theorem dJ10_next_45 : decode cJ10_next 45 = .ok (.dup, 1) := dk_89 (dk_at dksJ10_next_1 21 rfl rfl)
theorem dJ10_next_46 : decode cJ10_next 46 = .ok (.invokespecial 43, 3) := dk_183 0 43 (dk_at dksJ10_next_2 0 rfl rfl)
theorem dJ10_next_49 : decode cJ10_next 49 = .ok (.athrow, 1) := dk_191 (dk_at dksJ10_next_2 3 rfl rfl)
theorem dJ10_next_50 : decode cJ10_next 50 = .ok (.aload_n 0, 1) := dk_42 (dk_at dksJ10_next_2 4 rfl rfl)
theorem dJ10_next_51 : decode cJ10_next 51 = .ok (.iload_n 1, 1) := dk_27 (dk_at dksJ10_next_2 5 rfl rfl)
theorem dJ10_next_52 : decode cJ10_next 52 = .ok (.iconst 1, 1) := dk_4 (dk_at dksJ10_next_2 6 rfl rfl)
theorem dJ10_next_53 : decode cJ10_next 53 = .ok (.iadd, 1) := dk_96 (dk_at dksJ10_next_2 7 rfl rfl)
theorem dJ10_next_54 : decode cJ10_next 54 = .ok (.putfield 25, 3) := dk_181 0 25 (dk_at dksJ10_next_2 8 rfl rfl)
theorem dJ10_next_57 : decode cJ10_next 57 = .ok (.aload_n 2, 1) := dk_44 (dk_at dksJ10_next_2 11 rfl rfl)
theorem dJ10_next_58 : decode cJ10_next 58 = .ok (.aload_n 0, 1) := dk_42 (dk_at dksJ10_next_2 12 rfl rfl)
theorem dJ10_next_59 : decode cJ10_next 59 = .ok (.iload_n 1, 1) := dk_27 (dk_at dksJ10_next_2 13 rfl rfl)
theorem dJ10_next_60 : decode cJ10_next 60 = .ok (.dup_x1, 1) := dk_90 (dk_at dksJ10_next_2 14 rfl rfl)
theorem dJ10_next_61 : decode cJ10_next 61 = .ok (.putfield 13, 3) := dk_181 0 13 (dk_at dksJ10_next_2 15 rfl rfl)
theorem dJ10_next_64 : decode cJ10_next 64 = .ok (.aaload, 1) := dk_50 (dk_at dksJ10_next_2 18 rfl rfl)
theorem dJ10_next_65 : decode cJ10_next 65 = .ok (.areturn, 1) := dk_176 (dk_at dksJ10_next_2 19 rfl rfl)
set_option maxHeartbeats 4000000 in
theorem m_itNext (l : Launch) (hl : l.stackTraces = false) (g : GE) (A : Nat → Prop) (h : AHT) (it al dt : Nat) (xs : List Nat) (i : Nat) (hi : i < xs.length) (ha : IT g h it al dt xs i) : U_ l g A yJ10_next 2 0 0 [.ref it] h (fun v h' => v = some (va_rf xs[i]?) ∧ IT g h' it al dt xs (i + 1) ∧ Off [it] h h') noX := by
  refine U_.of (own := RJ10) (cc := cJ10_next) (L := 3) (ret := (some (Jvm.ClassFile.FieldType.object "java/lang/Object"))) hl rfl (plainFor_of_name (by decide)) ⟨by decide, by decide⟩ q534 q95 (by decide) (fun e => absurd e (by decide)) (Nat.le_of_ble_eq_true rfl) (fun κ cx => ?_)
  show V g A κ _ _ 0 0 h 0 [(0, .ref it)] []
  have ha0 := ha
  obtain ⟨md, lr, f, e1, e2, e3, e4, e5⟩ := ha
  rcases e4 with ⟨rfl, -⟩ | ⟨e4, e6⟩
  · exact absurd hi (Nat.not_lt_zero _)
  have hcb := capOf_b xs.length
  have hcs : xs.length ≤ capOf xs.length := by unfold capOf; (repeat' split) <;> omega
  have n1 : al ≠ it := fun z => by rw [z, e5] at e1; cases e1
  have n2 : dt ≠ it := fun z => by rw [z, e5] at e6; cases e6
  refine V.aload_n cx dJ10_next_0 rfl 0 rfl ?_
  refine V.callV (As := []) (rest := []) (C := "java/util/ArrayList$Itr") cx (m_itCheck l hl g A h it al dt xs i ha0) rfl q535 q536 q537 (Rv.of kJ10 e5) (na := 0) rfl (by decide +kernel) (Nat.le_of_ble_eq_true rfl) (by decide) (by decide) (by decide) rfl dJ10_next_1 (fun _ _ _ hx => hx.elim) (fun v1 h2 hp => ?_)
  obtain ⟨rfl, rfl⟩ := hp
  show V g A κ _ _ 0 0 h 4 [(0, .ref it)] []
  refine V.aload_n cx dJ10_next_4 rfl 0 rfl ?_
  refine V.get cx kJ10 e5 0 (by decide) q379 rfl rfl dJ10_next_5 ?_
  refine V.istore_n (lv' := [(1, .int (nI i)), (0, .ref it)]) cx dJ10_next_8 rfl (by decide) rfl ?_
  refine V.iload_n cx dJ10_next_9 rfl 0 rfl ?_
  refine V.aload_n cx dJ10_next_10 rfl 1 rfl ?_
  refine V.get cx kJ10 e5 3 (by decide) q382 rfl rfl dJ10_next_11 ?_
  refine V.getN cx kJ33 e1 2 (by decide) q304 rfl rfl dJ10_next_14 ?_
  refine V.nicmp_lt (a := i) (b := xs.length) (tgt := 28) cx (by omega) (by omega) dJ10_next_17 (by decide) (fun c_17 => ?_) (fun c_17 => ?_)
  · refine V.aload_n cx dJ10_next_28 rfl 1 rfl ?_
    refine V.get cx kJ10 e5 3 (by decide) q382 rfl rfl dJ10_next_29 ?_
    refine V.get cx kJ33 e1 1 (by decide) q303 rfl rfl dJ10_next_32 ?_
    refine V.astore_n (lv' := [(2, .ref dt), (1, .int (nI i)), (0, .ref it)]) cx dJ10_next_35 rfl (by decide) rfl ?_
    refine V.iload_n cx dJ10_next_36 rfl 1 rfl ?_
    refine V.aload_n cx dJ10_next_37 rfl 0 rfl ?_
    refine V.alen (t0 := 5) cx e6 rfl dJ10_next_38 ?_
    show V g A κ _ _ 0 0 h 39 [(2, .ref dt), (1, .int (nI i)), (0, .ref it)] [.int (nI (capOf xs.length)), .int (nI i)]
    refine V.nicmp_lt (a := i) (b := (capOf xs.length)) (tgt := 50) cx (by omega) (by omega) dJ10_next_39 (by decide) (fun c_39 => ?_) (fun c_39 => ?_)
    · refine V.aload_n cx dJ10_next_50 rfl 2 rfl ?_
      refine V.iload_n cx dJ10_next_51 rfl 1 rfl ?_
      refine V.iconst (v := (nI 1)) cx dJ10_next_52 (by decide) ?_
      refine V.iadd cx dJ10_next_53 ?_
      refine V.toi (nI_add i 1) ?_
      refine V.put (ty := tyJ10 0) cx kJ10 e5 0 (by decide) rfl (tyJ10_ok 0 (by decide)) rfl rfl (Nat.le_of_ble_eq_true rfl) q379 rfl dJ10_next_54 ?_
      show V g A κ _ _ 0 0 (up h it (ob 16 [.int (nI (i + 1)), .int lr, .int md, .ref al])) 57 [(2, .ref dt), (1, .int (nI i)), (0, .ref it)] []
      refine V.aload_n cx dJ10_next_57 rfl 0 rfl ?_
      refine V.aload_n cx dJ10_next_58 rfl 2 rfl ?_
      refine V.iload_n cx dJ10_next_59 rfl 1 rfl ?_
      refine V.dup_x1 cx dJ10_next_60 rfl rfl ?_
      refine V.put (ty := tyJ10 1) cx kJ10 up_s 1 (by decide) rfl (tyJ10_ok 1 (by decide)) rfl rfl (Nat.le_of_ble_eq_true rfl) q380 rfl dJ10_next_61 ?_
      show V g A κ _ _ 0 0 (up (up h it (ob 16 [.int (nI (i + 1)), .int lr, .int md, .ref al])) it (ob 16 [.int (nI (i + 1)), .int (nI i), .int md, .ref al])) 64 [(2, .ref dt), (1, .int (nI i)), (0, .ref it)] [.int (nI i), .ref dt]
      refine V.aaload (j := i) cx ((up_n n2).trans ((up_n n2).trans e6)) rfl rfl (by omega) (by omega) dJ10_next_64 ?_
      rw [e2 i hi]
      exact V.areturnq cx rfl (Or.inl ⟨_, rfl⟩) ⟨rfl, ⟨md, _, f, (up_n n1).trans ((up_n n1).trans e1), e2, e3, Or.inr ⟨e4, (up_n n2).trans ((up_n n2).trans e6)⟩, up_s⟩, ((Off.rf (S := [it])).put (by simp)).put (by simp)⟩ (by decide) (by decide) dJ10_next_65
    · omega
  · omega
