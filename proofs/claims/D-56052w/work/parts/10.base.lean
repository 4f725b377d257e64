/-! base: spec words; static helpers of MosaicCatalogue; Side -/
set_option maxRecDepth 100000
theorem ne_of {h : AHT} {b q : Nat} {c : va_E} (hb : h b = some c) (hn : h q = none) : b ≠ q := fun e => by rw [e, hn] at hb; cases hb
theorem b2_fits {b : Bool} : fits .boolean (.int (b2 b)) = true := by cases b <;> rfl
theorem va_rf_cat (o : Option Nat) : (va_rf o).category = 1 := by cases o <;> rfl
theorem va_fit_rf {ty : FieldType} (o : Option Nat) (h : fits ty .null = true := by rfl) (h2 : ∀ a, fits ty (.ref a) = true := by intro a; rfl) : fits ty (va_rf o) = true := by cases o; exact h; exact h2 _
theorem va_nar_rf {ty : FieldType} (o : Option Nat) (h : narrow ty .null = .null := by rfl) (h2 : ∀ a, narrow ty (.ref a) = .ref a := by intro a; rfl) : narrow ty (va_rf o) = va_rf o := by cases o; exact h; exact h2 _
/-- the heap has grown only -/
def Ext (h h' : AHT) : Prop := ∀ (a : Nat) (c : va_E), h a = some c → h' a = some c
theorem Ext.rf {h : AHT} : Ext h h := fun _ _ e => e
theorem Ext.trans {h h1 h2 : AHT} (a : Ext h h1) (b : Ext h1 h2) : Ext h h2 := fun x c e => b x c (a x c e)
theorem Ext.new {h : AHT} {q : Nat} {c : va_E} (hn : h q = none) : Ext h (up h q c) := fun _ _ e => up_o e hn
/-- nothing has changed but at the places S; the heap may have grown -/
def Off (S : List Nat) (h h' : AHT) : Prop := ∀ (a : Nat) (c : va_E), a ∉ S → h a = some c → h' a = some c
theorem Off.rf {S : List Nat} {h : AHT} : Off S h h := fun _ _ _ e => e
theorem Off.trans {S : List Nat} {h h1 h2 : AHT} (a : Off S h h1) (b : Off S h1 h2) : Off S h h2 := fun x c n e => b x c n (a x c n e)
theorem Off.mono {S S' : List Nat} {h h1 : AHT} (a : Off S h h1) (hs : ∀ x ∈ S, x ∈ S') : Off S' h h1 := fun x c n e => a x c (fun hx => n (hs x hx)) e
theorem Off.put {S : List Nat} {h h1 : AHT} {a : Nat} {c : va_E} (o : Off S h h1) (ha : a ∈ S) : Off S h (up h1 a c) := fun x c' n e => by rw [up_n (fun z => n (by rw [z]; exact ha))]; exact o x c' n e
theorem Off.new {S : List Nat} {h h1 : AHT} {q : Nat} {c : va_E} (o : Off S h h1) (hn : h1 q = none) : Off S h (up h1 q c) := fun x c' n e => up_o (o x c' n e) hn
theorem Off.upn {S : List Nat} {h h1 : AHT} {q : Nat} {c : va_E} (o : Off S h h1) (hn : h q = none) : Off S h (up h1 q c) := fun x c' n e => by rw [up_n (fun z => by rw [z, hn] at e; cases e)]; exact o x c' n e
theorem Ext.off {h h' : AHT} (e : Ext h h') {S : List Nat} : Off S h h' := fun a c _ x => e a c x
theorem Off.ext {h h' : AHT} (o : Off [] h h') : Ext h h' := fun a c x => o a c List.not_mem_nil x

/-- the neighbour of the cell c at the side s -/
def nb (c s : Nat) : Option Nat := match s with
  | 0 => if 8 ≤ c then some (c - 8) else none
  | 1 => if c % 8 < 7 then some (c + 1) else none
  | 2 => if c < 56 then some (c + 8) else none
  | _ => if 0 < c % 8 then some (c - 1) else none
def oI : Option Nat → Int32
  | none => -1
  | some x => nI x
theorem w_ext {h h' : AHT} (e : h' = h) : Ext h h' := by rw [e]; exact Ext.rf
abbrev cX1_inRange : ByteArray := prog_1_method_1_code
def yX1_inRange : MethodName := ⟨RX1, "inRange", "(JJJ)Z"⟩
def dkwX1_inRange_0 : List UInt8 := [30, 32, 148, 155, 0, 14, 30, 22, 4, 148, 157, 0, 7, 4, 167, 0, 4, 3, 172]
abbrev dktX1_inRange_0 : List UInt8 := dkwX1_inRange_0 ++ []
theorem dksX1_inRange_0 : cX1_inRange.data.toList.drop 0 = dktX1_inRange_0 := by decide +kernel
theorem dX1_inRange_0 : decode cX1_inRange 0 = .ok (.lload_n 0, 1) := dk_30 (dk_at dksX1_inRange_0 0 rfl rfl)
theorem dX1_inRange_1 : decode cX1_inRange 1 = .ok (.lload_n 2, 1) := dk_32 (dk_at dksX1_inRange_0 1 rfl rfl)
theorem dX1_inRange_2 : decode cX1_inRange 2 = .ok (.lcmp, 1) := dk_148 (dk_at dksX1_inRange_0 2 rfl rfl)
theorem dX1_inRange_3 : decode cX1_inRange 3 = .ok (.ifCond .lt 14, 3) := dk_155 0 14 (dk_at dksX1_inRange_0 3 rfl rfl)
theorem dX1_inRange_6 : decode cX1_inRange 6 = .ok (.lload_n 0, 1) := dk_30 (dk_at dksX1_inRange_0 6 rfl rfl)
theorem dX1_inRange_7 : decode cX1_inRange 7 = .ok (.lload 4, 2) := dk_22 4 (dk_at dksX1_inRange_0 7 rfl rfl)
theorem dX1_inRange_9 : decode cX1_inRange 9 = .ok (.lcmp, 1) := dk_148 (dk_at dksX1_inRange_0 9 rfl rfl)
theorem dX1_inRange_10 : decode cX1_inRange 10 = .ok (.ifCond .gt 7, 3) := dk_157 0 7 (dk_at dksX1_inRange_0 10 rfl rfl)
theorem dX1_inRange_13 : decode cX1_inRange 13 = .ok (.iconst 1, 1) := dk_4 (dk_at dksX1_inRange_0 13 rfl rfl)
theorem dX1_inRange_14 : decode cX1_inRange 14 = .ok (.goto 4, 3) := dk_167 0 4 (dk_at dksX1_inRange_0 14 rfl rfl)
theorem dX1_inRange_17 : decode cX1_inRange 17 = .ok (.iconst 0, 1) := dk_3 (dk_at dksX1_inRange_0 17 rfl rfl)
theorem dX1_inRange_18 : decode cX1_inRange 18 = .ok (.ireturn, 1) := dk_172 (dk_at dksX1_inRange_0 18 rfl rfl)
set_option maxHeartbeats 4000000 in
theorem m_inRange (l : Launch) (hl : l.stackTraces = false) (g : GE) (A : Nat → Prop) (h : AHT) (x lo hi : Int64) : U_ l g A yX1_inRange 1 0 0 [.long x, .long lo, .long hi] h (fun v h' => v = some (.int (b2 (decide (lo ≤ x ∧ x ≤ hi)))) ∧ h = h') noX := by
  refine U_.of (own := RX1) (cc := cX1_inRange) (L := 6) (ret := (some Jvm.ClassFile.FieldType.boolean)) hl rfl (plainFor_of_name (by decide)) ⟨by decide, by decide⟩ q1375 q82 (by decide) (fun e => absurd e (by decide)) (Nat.le_of_ble_eq_true rfl) (fun κ cx => ?_)
  show V g A κ _ _ 0 0 h 0 [(0, .long x), (2, .long lo), (4, .long hi)] []
  refine V.lload_n cx dX1_inRange_0 rfl 0 rfl ?_
  refine V.lload_n cx dX1_inRange_1 rfl 1 rfl ?_
  refine V.lcmp cx dX1_inRange_2 ?_
  refine V.if_lt (tgt := 17) cx dX1_inRange_3 (by decide) (fun c_3 => ?_) (fun c_3 => ?_)
  · refine V.iconst (v := (nI 0)) cx dX1_inRange_17 (by decide) ?_
    refine V.toi (y := b2 (decide (lo ≤ x ∧ x ≤ hi))) (by rw [lg_cmp_lt] at c_3; rw [decide_eq_false (fun e => Int64.not_le.mpr c_3 e.1)]; rfl) ?_
    exact V.ireturn (x := (b2 (decide (lo ≤ x ∧ x ≤ hi)))) cx rfl b2_narrow ⟨rfl, rfl⟩ (by decide) (by decide) dX1_inRange_18
  · refine V.lload_n cx dX1_inRange_6 rfl 0 rfl ?_
    refine V.lload cx dX1_inRange_7 2 rfl ?_
    refine V.lcmp cx dX1_inRange_9 ?_
    refine V.if_gt (tgt := 17) cx dX1_inRange_10 (by decide) (fun c_10 => ?_) (fun c_10 => ?_)
    · refine V.iconst (v := (nI 0)) cx dX1_inRange_17 (by decide) ?_
      refine V.toi (y := b2 (decide (lo ≤ x ∧ x ≤ hi))) (by rw [lg_cmp_gt] at c_10; rw [decide_eq_false (fun e => Int64.not_le.mpr c_10 e.2)]; rfl) ?_
      exact V.ireturn (x := (b2 (decide (lo ≤ x ∧ x ≤ hi)))) cx rfl b2_narrow ⟨rfl, rfl⟩ (by decide) (by decide) dX1_inRange_18
    · refine V.iconst (v := (nI 1)) cx dX1_inRange_13 (by decide) ?_
      refine V.goto (tgt := 18) cx dX1_inRange_14 (by decide) ?_
      refine V.toi (y := b2 (decide (lo ≤ x ∧ x ≤ hi))) (by rw [lg_cmp_lt, Int64.not_lt] at c_3; rw [lg_cmp_gt, Int64.not_lt] at c_10; rw [decide_eq_true ⟨c_3, c_10⟩]; rfl) ?_
      exact V.ireturn (x := (b2 (decide (lo ≤ x ∧ x ≤ hi)))) cx rfl b2_narrow ⟨rfl, rfl⟩ (by decide) (by decide) dX1_inRange_18
abbrev cX8_of : ByteArray := prog_8_method_4_code
def yX8_of : MethodName := ⟨RX8, "of", "(I)LMosaicCatalogue$Side;"⟩
def dkwX8_of_2 : List UInt8 := [178, 0, 5, 176, 178, 0, 9, 176, 178, 0, 12, 176, 178, 0, 15, 176]
abbrev dktX8_of_2 : List UInt8 := dkwX8_of_2 ++ []
def dkwX8_of_1 : List UInt8 := [170, 0, 0, 0, 0, 0, 39, 0, 0, 0, 0, 0, 0, 0, 2, 0, 0, 0, 27, 0, 0, 0, 31, 0, 0, 0, 35]
abbrev dktX8_of_1 : List UInt8 := dkwX8_of_1 ++ dktX8_of_2
def dkwX8_of_0 : List UInt8 := [26]
abbrev dktX8_of_0 : List UInt8 := dkwX8_of_0 ++ dktX8_of_1
theorem dksX8_of_0 : cX8_of.data.toList.drop 0 = dktX8_of_0 := by decide +kernel
theorem dksX8_of_1 : cX8_of.data.toList.drop 1 = dktX8_of_1 := dk_seg dksX8_of_0 1 rfl rfl
theorem dksX8_of_2 : cX8_of.data.toList.drop 28 = dktX8_of_2 := dk_seg dksX8_of_1 27 rfl rfl
theorem dX8_of_0 : decode cX8_of 0 = .ok (.iload_n 0, 1) := dk_26 (dk_at dksX8_of_0 0 rfl rfl)
theorem dX8_of_1 : decode cX8_of 1 = .ok (.tableswitch 39 0 2 #[27, 31, 35], 27) := by decide +kernel
theorem dX8_of_28 : decode cX8_of 28 = .ok (.getstatic 5, 3) := dk_178 0 5 (dk_at dksX8_of_2 0 rfl rfl)
theorem dX8_of_31 : decode cX8_of 31 = .ok (.areturn, 1) := dk_176 (dk_at dksX8_of_2 3 rfl rfl)
theorem dX8_of_32 : decode cX8_of 32 = .ok (.getstatic 9, 3) := dk_178 0 9 (dk_at dksX8_of_2 4 rfl rfl)
theorem dX8_of_35 : decode cX8_of 35 = .ok (.areturn, 1) := dk_176 (dk_at dksX8_of_2 7 rfl rfl)
theorem dX8_of_36 : decode cX8_of 36 = .ok (.getstatic 12, 3) := dk_178 0 12 (dk_at dksX8_of_2 8 rfl rfl)
theorem dX8_of_39 : decode cX8_of 39 = .ok (.areturn, 1) := dk_176 (dk_at dksX8_of_2 11 rfl rfl)
theorem dX8_of_40 : decode cX8_of 40 = .ok (.getstatic 15, 3) := dk_178 0 15 (dk_at dksX8_of_2 12 rfl rfl)
theorem dX8_of_43 : decode cX8_of 43 = .ok (.areturn, 1) := dk_176 (dk_at dksX8_of_2 15 rfl rfl)
set_option maxHeartbeats 4000000 in
theorem m_sideOf (l : Launch) (hl : l.stackTraces = false) (g : GE) (A : Nat → Prop) (h : AHT) (s : Nat) (hs : s < 4) : U_ l g A yX8_of 1 0 0 [.int (nI s)] h (fun v h' => v = some (.ref (g.ad 0 s)) ∧ h = h') noX := by
  refine U_.of (own := RX8) (cc := cX8_of) (L := 1) (ret := (some (Jvm.ClassFile.FieldType.object "MosaicCatalogue$Side"))) hl rfl (plainFor_of_name (by decide)) ⟨by decide, by decide⟩ q1465 q124 (by decide) (fun e => absurd e (by decide)) (Nat.le_of_ble_eq_true rfl) (fun κ cx => ?_)
  show V g A κ _ _ 0 0 h 0 [(0, .int (nI s))] []
  refine V.iload_n cx dX8_of_0 rfl 0 rfl ?_
  rcases (show s = 0 ∨ s = 1 ∨ s = 2 ∨ s = 3 by omega) with rfl | rfl | rfl | rfl
  · refine V.tableIn (off := 27) (tgt := 28) cx dX8_of_1 (by decide) (by decide) (by decide) (by decide) ?_
    refine V.gets (C := "MosaicCatalogue$Side") (v := .ref (g.ad 0 0)) cx (by simp [zs]) q1466 rfl dX8_of_28 ?_
    exact V.areturn cx rfl (Or.inl ⟨_, rfl⟩) ⟨rfl, rfl⟩ (by decide) (by decide) dX8_of_31
  · refine V.tableIn (off := 31) (tgt := 32) cx dX8_of_1 (by decide) (by decide) (by decide) (by decide) ?_
    refine V.gets (C := "MosaicCatalogue$Side") (v := .ref (g.ad 0 1)) cx (by simp [zs]) q1468 rfl dX8_of_32 ?_
    exact V.areturn cx rfl (Or.inl ⟨_, rfl⟩) ⟨rfl, rfl⟩ (by decide) (by decide) dX8_of_35
  · refine V.tableIn (off := 35) (tgt := 36) cx dX8_of_1 (by decide) (by decide) (by decide) (by decide) ?_
    refine V.gets (C := "MosaicCatalogue$Side") (v := .ref (g.ad 0 2)) cx (by simp [zs]) q1470 rfl dX8_of_36 ?_
    exact V.areturn cx rfl (Or.inl ⟨_, rfl⟩) ⟨rfl, rfl⟩ (by decide) (by decide) dX8_of_39
  · refine V.tableOut (tgt := 40) cx dX8_of_1 (by decide) (by decide) ?_
    refine V.gets (C := "MosaicCatalogue$Side") (v := .ref (g.ad 0 3)) cx (by simp [zs]) q1472 rfl dX8_of_40 ?_
    exact V.areturn cx rfl (Or.inl ⟨_, rfl⟩) ⟨rfl, rfl⟩ (by decide) (by decide) dX8_of_43
/-- the row and the column of a cell's neighbour, as the code has them -/
def nbR (c s : Nat) : Int32 := nI (c / 8) + sideR.getD s 0
def nbC (c s : Nat) : Int32 := nI (c % 8) + sideC.getD s 0
def nbIn (x : Int32) : Bool := decide ((0 : Int64) ≤ x.toInt64 ∧ x.toInt64 ≤ 7)
theorem nb_code : ∀ c, c < 64 → ∀ s, s < 4 → oI (nb c s) = if nbIn (nbR c s) && nbIn (nbC c s) then nI 8 * nbR c s + nbC c s else -1 := by decide +kernel
abbrev cX8_neighbour : ByteArray := prog_8_method_6_code
def yX8_neighbour : MethodName := ⟨RX8, "neighbour", "(I)I"⟩
def dkwX8_neighbour_2 : List UInt8 := [167, 0, 4, 3, 54, 4, 21, 4, 153, 0, 12, 16, 8, 28, 104, 29, 96, 167, 0, 4, 2, 172]
abbrev dktX8_neighbour_2 : List UInt8 := dkwX8_neighbour_2 ++ []
def dkwX8_neighbour_1 : List UInt8 := [20, 0, 51, 184, 0, 53, 153, 0, 19, 29, 133, 9, 20, 0, 51, 184, 0, 53, 153, 0, 7, 4]
abbrev dktX8_neighbour_1 : List UInt8 := dkwX8_neighbour_1 ++ dktX8_neighbour_2
def dkwX8_neighbour_0 : List UInt8 := [27, 16, 8, 108, 42, 180, 0, 41, 96, 61, 27, 16, 8, 112, 42, 180, 0, 44, 96, 62, 28, 133, 9]
abbrev dktX8_neighbour_0 : List UInt8 := dkwX8_neighbour_0 ++ dktX8_neighbour_1
theorem dksX8_neighbour_0 : cX8_neighbour.data.toList.drop 0 = dktX8_neighbour_0 := by decide +kernel
theorem dksX8_neighbour_1 : cX8_neighbour.data.toList.drop 23 = dktX8_neighbour_1 := dk_seg dksX8_neighbour_0 23 rfl rfl
theorem dksX8_neighbour_2 : cX8_neighbour.data.toList.drop 45 = dktX8_neighbour_2 := dk_seg dksX8_neighbour_1 22 rfl rfl
theorem dX8_neighbour_0 : decode cX8_neighbour 0 = .ok (.iload_n 1, 1) := dk_27 (dk_at dksX8_neighbour_0 0 rfl rfl)
theorem dX8_neighbour_1 : decode cX8_neighbour 1 = .ok (.bipush 8, 2) := dk_16 8 (dk_at dksX8_neighbour_0 1 rfl rfl)
theorem dX8_neighbour_3 : decode cX8_neighbour 3 = .ok (.idiv, 1) := dk_108 (dk_at dksX8_neighbour_0 3 rfl rfl)
theorem dX8_neighbour_4 : decode cX8_neighbour 4 = .ok (.aload_n 0, 1) := dk_42 (dk_at dksX8_neighbour_0 4 rfl rfl)
theorem dX8_neighbour_5 : decode cX8_neighbour 5 = .ok (.getfield 41, 3) := dk_180 0 41 (dk_at dksX8_neighbour_0 5 rfl rfl)
theorem dX8_neighbour_8 : decode cX8_neighbour 8 = .ok (.iadd, 1) := dk_96 (dk_at dksX8_neighbour_0 8 rfl rfl)
theorem dX8_neighbour_9 : decode cX8_neighbour 9 = .ok (.istore_n 2, 1) := dk_61 (dk_at dksX8_neighbour_0 9 rfl rfl)
theorem dX8_neighbour_10 : decode cX8_neighbour 10 = .ok (.iload_n 1, 1) := dk_27 (dk_at dksX8_neighbour_0 10 rfl rfl)
theorem dX8_neighbour_11 : decode cX8_neighbour 11 = .ok (.bipush 8, 2) := dk_16 8 (dk_at dksX8_neighbour_0 11 rfl rfl)
theorem dX8_neighbour_13 : decode cX8_neighbour 13 = .ok (.irem, 1) := dk_112 (dk_at dksX8_neighbour_0 13 rfl rfl)
theorem dX8_neighbour_14 : decode cX8_neighbour 14 = .ok (.aload_n 0, 1) := dk_42 (dk_at dksX8_neighbour_0 14 rfl rfl)
theorem dX8_neighbour_15 : decode cX8_neighbour 15 = .ok (.getfield 44, 3) := dk_180 0 44 (dk_at dksX8_neighbour_0 15 rfl rfl)
theorem dX8_neighbour_18 : decode cX8_neighbour 18 = .ok (.iadd, 1) := dk_96 (dk_at dksX8_neighbour_0 18 rfl rfl)
theorem dX8_neighbour_19 : decode cX8_neighbour 19 = .ok (.istore_n 3, 1) := dk_62 (dk_at dksX8_neighbour_0 19 rfl rfl)
theorem dX8_neighbour_20 : decode cX8_neighbour 20 = .ok (.iload_n 2, 1) := dk_28 (dk_at dksX8_neighbour_0 20 rfl rfl)
theorem dX8_neighbour_21 : decode cX8_neighbour 21 = .ok (.i2l, 1) := dk_133 (dk_at dksX8_neighbour_0 21 rfl rfl)
theorem dX8_neighbour_22 : decode cX8_neighbour 22 = .ok (.lconst 0, 1) := dk_9 (dk_at dksX8_neighbour_0 22 rfl rfl)
theorem dX8_neighbour_23 : decode cX8_neighbour 23 = .ok (.ldc2_w 51, 3) := dk_20 0 51 (dk_at dksX8_neighbour_1 0 rfl rfl)
theorem dX8_neighbour_26 : decode cX8_neighbour 26 = .ok (.invokestatic 53, 3) := dk_184 0 53 (dk_at dksX8_neighbour_1 3 rfl rfl)
theorem dX8_neighbour_29 : decode cX8_neighbour 29 = .ok (.ifCond .eq 19, 3) := dk_153 0 19 (dk_at dksX8_neighbour_1 6 rfl rfl)
theorem dX8_neighbour_32 : decode cX8_neighbour 32 = .ok (.iload_n 3, 1) := dk_29 (dk_at dksX8_neighbour_1 9 rfl rfl)
theorem dX8_neighbour_33 : decode cX8_neighbour 33 = .ok (.i2l, 1) := dk_133 (dk_at dksX8_neighbour_1 10 rfl rfl)
theorem dX8_neighbour_34 : decode cX8_neighbour 34 = .ok (.lconst 0, 1) := dk_9 (dk_at dksX8_neighbour_1 11 rfl rfl)
theorem dX8_neighbour_35 : decode cX8_neighbour 35 = .ok (.ldc2_w 51, 3) := dk_20 0 51 (dk_at dksX8_neighbour_1 12 rfl rfl)
theorem dX8_neighbour_38 : decode cX8_neighbour 38 = .ok (.invokestatic 53, 3) := dk_184 0 53 (dk_at dksX8_neighbour_1 15 rfl rfl)
theorem dX8_neighbour_41 : decode cX8_neighbour 41 = .ok (.ifCond .eq 7, 3) := dk_153 0 7 (dk_at dksX8_neighbour_1 18 rfl rfl)
theorem dX8_neighbour_44 : decode cX8_neighbour 44 = .ok (.iconst 1, 1) := dk_4 (dk_at dksX8_neighbour_1 21 rfl rfl)
theorem dX8_neighbour_45 : decode cX8_neighbour 45 = .ok (.goto 4, 3) := dk_167 0 4 (dk_at dksX8_neighbour_2 0 rfl rfl)
theorem dX8_neighbour_48 : decode cX8_neighbour 48 = .ok (.iconst 0, 1) := dk_3 (dk_at dksX8_neighbour_2 3 rfl rfl)
theorem dX8_neighbour_49 : decode cX8_neighbour 49 = .ok (.istore 4, 2) := dk_54 4 (dk_at dksX8_neighbour_2 4 rfl rfl)
theorem dX8_neighbour_51 : decode cX8_neighbour 51 = .ok (.iload 4, 2) := dk_21 4 (dk_at dksX8_neighbour_2 6 rfl rfl)
theorem dX8_neighbour_53 : decode cX8_neighbour 53 = .ok (.ifCond .eq 12, 3) := dk_153 0 12 (dk_at dksX8_neighbour_2 8 rfl rfl)
theorem dX8_neighbour_56 : decode cX8_neighbour 56 = .ok (.bipush 8, 2) := dk_16 8 (dk_at dksX8_neighbour_2 11 rfl rfl)
theorem dX8_neighbour_58 : decode cX8_neighbour 58 = .ok (.iload_n 2, 1) := dk_28 (dk_at dksX8_neighbour_2 13 rfl rfl)
theorem dX8_neighbour_59 : decode cX8_neighbour 59 = .ok (.imul, 1) := dk_104 (dk_at dksX8_neighbour_2 14 rfl rfl)
theorem dX8_neighbour_60 : decode cX8_neighbour 60 = .ok (.iload_n 3, 1) := dk_29 (dk_at dksX8_neighbour_2 15 rfl rfl)
theorem dX8_neighbour_61 : decode cX8_neighbour 61 = .ok (.iadd, 1) := dk_96 (dk_at dksX8_neighbour_2 16 rfl rfl)
theorem dX8_neighbour_62 : decode cX8_neighbour 62 = .ok (.goto 4, 3) := dk_167 0 4 (dk_at dksX8_neighbour_2 17 rfl rfl)
theorem dX8_neighbour_65 : decode cX8_neighbour 65 = .ok (.iconst (-1), 1) := dk_2 (dk_at dksX8_neighbour_2 20 rfl rfl)
theorem dX8_neighbour_66 : decode cX8_neighbour 66 = .ok (.ireturn, 1) := dk_172 (dk_at dksX8_neighbour_2 21 rfl rfl)
set_option maxHeartbeats 4000000 in
theorem m_neighbour (l : Launch) (hl : l.stackTraces = false) (g : GE) (A : Nat → Prop) (h : AHT) (c s : Nat) (hc : c < 64) (hs : s < 4) : U_ l g A yX8_neighbour 2 0 0 [.ref (g.ad 0 s), .int (nI c)] h (fun v h' => v = some (.int (oI (nb c s))) ∧ h = h') noX := by
  refine U_.of (own := RX8) (cc := cX8_neighbour) (L := 5) (ret := (some Jvm.ClassFile.FieldType.int)) hl rfl (plainFor_of_name (by decide)) ⟨by decide, by decide⟩ q1485 q124 (by decide) (fun e => absurd e (by decide)) (Nat.le_of_ble_eq_true rfl) (fun κ cx => ?_)
  show V g A κ _ _ 0 0 h 0 [(0, .ref (g.ad 0 s)), (1, .int (nI c))] []
  refine V.iload_n cx dX8_neighbour_0 rfl 1 rfl ?_
  refine V.bipush (v := (nI 8)) cx dX8_neighbour_1 (by decide) ?_
  refine V.idiv cx dX8_neighbour_3 (by decide) ?_
  refine V.toi (pk_div (a := c) (d := 8) (by omega) (by decide) (by decide)) ?_
  refine V.aload_n cx dX8_neighbour_4 rfl 0 rfl ?_
  refine V.getR (v := .int (sideR.getD s 0)) cx (cx.gok.2.2.2.2.2.2.1 s hs) (by simp) q2998 rfl dX8_neighbour_5 ?_
  refine V.iadd cx dX8_neighbour_8 ?_
  refine V.toi (y := nbR c s) rfl ?_
  refine V.istore_n (lv' := [(2, .int (nbR c s)), (0, .ref (g.ad 0 s)), (1, .int (nI c))]) cx dX8_neighbour_9 rfl (by decide) rfl ?_
  refine V.iload_n cx dX8_neighbour_10 rfl 2 rfl ?_
  refine V.bipush (v := (nI 8)) cx dX8_neighbour_11 (by decide) ?_
  refine V.irem cx dX8_neighbour_13 (by decide) ?_
  refine V.toi (pk_rem (a := c) (d := 8) (by omega) (by decide) (by decide)) ?_
  refine V.aload_n cx dX8_neighbour_14 rfl 1 rfl ?_
  refine V.getR (v := .int (sideC.getD s 0)) cx (cx.gok.2.2.2.2.2.2.1 s hs) (by simp) q2999 rfl dX8_neighbour_15 ?_
  refine V.iadd cx dX8_neighbour_18 ?_
  refine V.toi (y := nbC c s) rfl ?_
  refine V.istore_n (lv' := [(3, .int (nbC c s)), (2, .int (nbR c s)), (0, .ref (g.ad 0 s)), (1, .int (nI c))]) cx dX8_neighbour_19 rfl (by decide) rfl ?_
  refine V.iload_n cx dX8_neighbour_20 rfl 1 rfl ?_
  refine V.i2l cx dX8_neighbour_21 rfl ?_
  refine V.lconst (v := 0) cx dX8_neighbour_22 (by decide) ?_
  refine V.ldc2 cx q1486 dX8_neighbour_23 ?_
  refine V.callSN (As := [.long (((nbR c s)).toInt64), .long 0, .long 7]) (rest := []) cx (m_inRange l hl g A h _ _ _) q1487 q1374 (na := 3) rfl (by decide +kernel) (Nat.le_of_ble_eq_true rfl) (by decide) (by decide) (by decide) rfl dX8_neighbour_26 (fun _ _ _ hx => hx.elim) (fun v1 h2 hp => ?_)
  obtain ⟨rfl, rfl⟩ := hp
  show V g A κ _ _ 0 0 h 29 [(3, .int (nbC c s)), (2, .int (nbR c s)), (0, .ref (g.ad 0 s)), (1, .int (nI c))] [.int (b2 (nbIn (nbR c s)))]
  refine V.bif_eq (tgt := 48) cx dX8_neighbour_29 (by decide) (fun c1 => ?_) (fun c1 => ?_)
  · refine V.iconst (v := (nI 0)) cx dX8_neighbour_48 (by decide) ?_
    refine V.istore (lv' := [(4, .int (nI 0)), (3, .int (nbC c s)), (2, .int (nbR c s)), (0, .ref (g.ad 0 s)), (1, .int (nI c))]) cx dX8_neighbour_49 (by decide) rfl ?_
    refine V.iload cx dX8_neighbour_51 0 rfl ?_
    refine V.nif_eq (a := 0) (tgt := 65) cx (by decide) dX8_neighbour_53 (by decide) (fun z0 => ?_) (fun z0 => ?_)
    · refine V.iconst (v := (-1)) cx dX8_neighbour_65 (by decide) ?_
      refine V.toi (y := oI (nb c s)) (by rw [nb_code c hc s hs]; simp [c1]) ?_
      exact V.ireturn (x := (oI (nb c s))) cx rfl rfl ⟨rfl, rfl⟩ (by decide) (by decide) dX8_neighbour_66
    · exact absurd z0 (by decide)
  · refine V.iload_n cx dX8_neighbour_32 rfl 0 rfl ?_
    refine V.i2l cx dX8_neighbour_33 rfl ?_
    refine V.lconst (v := 0) cx dX8_neighbour_34 (by decide) ?_
    refine V.ldc2 cx q1486 dX8_neighbour_35 ?_
    refine V.callSN (As := [.long (((nbC c s)).toInt64), .long 0, .long 7]) (rest := []) cx (m_inRange l hl g A h _ _ _) q1487 q1374 (na := 3) rfl (by decide +kernel) (Nat.le_of_ble_eq_true rfl) (by decide) (by decide) (by decide) rfl dX8_neighbour_38 (fun _ _ _ hx => hx.elim) (fun v3 h4 hp => ?_)
    obtain ⟨rfl, rfl⟩ := hp
    show V g A κ _ _ 0 0 h 41 [(3, .int (nbC c s)), (2, .int (nbR c s)), (0, .ref (g.ad 0 s)), (1, .int (nI c))] [.int (b2 (nbIn (nbC c s)))]
    refine V.bif_eq (tgt := 48) cx dX8_neighbour_41 (by decide) (fun c2 => ?_) (fun c2 => ?_)
    · refine V.iconst (v := (nI 0)) cx dX8_neighbour_48 (by decide) ?_
      refine V.istore (lv' := [(4, .int (nI 0)), (3, .int (nbC c s)), (2, .int (nbR c s)), (0, .ref (g.ad 0 s)), (1, .int (nI c))]) cx dX8_neighbour_49 (by decide) rfl ?_
      refine V.iload cx dX8_neighbour_51 0 rfl ?_
      refine V.nif_eq (a := 0) (tgt := 65) cx (by decide) dX8_neighbour_53 (by decide) (fun z0 => ?_) (fun z0 => ?_)
      · refine V.iconst (v := (-1)) cx dX8_neighbour_65 (by decide) ?_
        refine V.toi (y := oI (nb c s)) (by rw [nb_code c hc s hs]; simp [c2]) ?_
        exact V.ireturn (x := (oI (nb c s))) cx rfl rfl ⟨rfl, rfl⟩ (by decide) (by decide) dX8_neighbour_66
      · exact absurd z0 (by decide)
    · refine V.iconst (v := (nI 1)) cx dX8_neighbour_44 (by decide) ?_
      refine V.goto (tgt := 49) cx dX8_neighbour_45 (by decide) ?_
      refine V.istore (lv' := [(4, .int (nI 1)), (3, .int (nbC c s)), (2, .int (nbR c s)), (0, .ref (g.ad 0 s)), (1, .int (nI c))]) cx dX8_neighbour_49 (by decide) rfl ?_
      refine V.iload cx dX8_neighbour_51 0 rfl ?_
      refine V.nif_eq (a := 1) (tgt := 65) cx (by decide) dX8_neighbour_53 (by decide) (fun z0 => ?_) (fun z0 => ?_)
      · exact absurd z0 (by decide)
      · refine V.bipush (v := (nI 8)) cx dX8_neighbour_56 (by decide) ?_
        refine V.iload_n cx dX8_neighbour_58 rfl 2 rfl ?_
        refine V.imul cx dX8_neighbour_59 ?_
        refine V.iload_n cx dX8_neighbour_60 rfl 1 rfl ?_
        refine V.iadd cx dX8_neighbour_61 ?_
        refine V.goto (tgt := 66) cx dX8_neighbour_62 (by decide) ?_
        refine V.toi (y := oI (nb c s)) (by rw [nb_code c hc s hs]; simp [c1, c2]) ?_
        exact V.ireturn (x := (oI (nb c s))) cx rfl rfl ⟨rfl, rfl⟩ (by decide) (by decide) dX8_neighbour_66
abbrev cX8_opposite : ByteArray := prog_8_method_5_code
def yX8_opposite : MethodName := ⟨RX8, "opposite", "()LMosaicCatalogue$Side;"⟩
def dkwX8_opposite_0 : List UInt8 := [42, 180, 0, 37, 5, 96, 7, 112, 184, 0, 47, 176]
abbrev dktX8_opposite_0 : List UInt8 := dkwX8_opposite_0 ++ []
theorem dksX8_opposite_0 : cX8_opposite.data.toList.drop 0 = dktX8_opposite_0 := by decide +kernel
theorem dX8_opposite_0 : decode cX8_opposite 0 = .ok (.aload_n 0, 1) := dk_42 (dk_at dksX8_opposite_0 0 rfl rfl)
theorem dX8_opposite_1 : decode cX8_opposite 1 = .ok (.getfield 37, 3) := dk_180 0 37 (dk_at dksX8_opposite_0 1 rfl rfl)
theorem dX8_opposite_4 : decode cX8_opposite 4 = .ok (.iconst 2, 1) := dk_5 (dk_at dksX8_opposite_0 4 rfl rfl)
theorem dX8_opposite_5 : decode cX8_opposite 5 = .ok (.iadd, 1) := dk_96 (dk_at dksX8_opposite_0 5 rfl rfl)
theorem dX8_opposite_6 : decode cX8_opposite 6 = .ok (.iconst 4, 1) := dk_7 (dk_at dksX8_opposite_0 6 rfl rfl)
theorem dX8_opposite_7 : decode cX8_opposite 7 = .ok (.irem, 1) := dk_112 (dk_at dksX8_opposite_0 7 rfl rfl)
theorem dX8_opposite_8 : decode cX8_opposite 8 = .ok (.invokestatic 47, 3) := dk_184 0 47 (dk_at dksX8_opposite_0 8 rfl rfl)
theorem dX8_opposite_11 : decode cX8_opposite 11 = .ok (.areturn, 1) := dk_176 (dk_at dksX8_opposite_0 11 rfl rfl)
set_option maxHeartbeats 4000000 in
theorem m_opposite (l : Launch) (hl : l.stackTraces = false) (g : GE) (A : Nat → Prop) (h : AHT) (s : Nat) (hs : s < 4) : U_ l g A yX8_opposite 2 0 0 [.ref (g.ad 0 s)] h (fun v h' => v = some (.ref (g.ad 0 ((s + 2) % 4))) ∧ h = h') noX := by
  refine U_.of (own := RX8) (cc := cX8_opposite) (L := 1) (ret := (some (Jvm.ClassFile.FieldType.object "MosaicCatalogue$Side"))) hl rfl (plainFor_of_name (by decide)) ⟨by decide, by decide⟩ q1502 q124 (by decide) (fun e => absurd e (by decide)) (Nat.le_of_ble_eq_true rfl) (fun κ cx => ?_)
  show V g A κ _ _ 0 0 h 0 [(0, .ref (g.ad 0 s))] []
  refine V.aload_n cx dX8_opposite_0 rfl 0 rfl ?_
  refine V.getR (v := .int (nI s)) cx (cx.gok.2.2.2.2.2.2.1 s hs) (by simp) q3001 rfl dX8_opposite_1 ?_
  refine V.iconst (v := (nI 2)) cx dX8_opposite_4 (by decide) ?_
  refine V.iadd cx dX8_opposite_5 ?_
  refine V.toi (nI_add s 2) ?_
  refine V.iconst (v := (nI 4)) cx dX8_opposite_6 (by decide) ?_
  refine V.irem cx dX8_opposite_7 (by decide) ?_
  refine V.toi (pk_rem (a := s + 2) (d := 4) (by omega) (by decide) (by decide)) ?_
  refine V.callS (As := [.int (nI ((s + 2) % 4))]) (rest := []) cx (m_sideOf l hl g A h ((s + 2) % 4) (by omega)) q1503 q1464 (na := 1) rfl (by decide +kernel) (Nat.le_of_ble_eq_true rfl) (by decide) (by decide) (by decide) rfl dX8_opposite_8 (fun _ _ _ hx => hx.elim) (fun v1 h2 hp => ?_)
  obtain ⟨rfl, rfl⟩ := hp
  show V g A κ _ _ 0 0 h 11 [(0, .ref (g.ad 0 s))] [.ref (g.ad 0 ((s + 2) % 4))]
  exact V.areturn cx rfl (Or.inl ⟨_, rfl⟩) ⟨rfl, rfl⟩ (by decide) (by decide) dX8_opposite_11
