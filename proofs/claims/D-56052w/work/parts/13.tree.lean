/-! JDK: TreeMap -/
set_option maxRecDepth 100000
/-! TreeMap: the tree over the entries E in their order; ix: an entry's place; lo, hi: the places of its subtree -/
def Inv (E : List Nat) (ix lo hi : Nat → Nat) (lf rt pa : Nat → Option Nat) (root : Option Nat) : Prop :=
  (∀ e, e ∈ E → E[ix e]? = some e) ∧ (∀ e, e ∈ E → lo e ≤ ix e ∧ ix e < hi e ∧ hi e ≤ E.length) ∧
  (∀ e, e ∈ E → (lf e = none → lo e = ix e) ∧ ∀ l, lf e = some l → l ∈ E ∧ pa l = some e ∧ lo l = lo e ∧ hi l = ix e) ∧
  (∀ e, e ∈ E → (rt e = none → hi e = ix e + 1) ∧ ∀ r, rt e = some r → r ∈ E ∧ pa r = some e ∧ lo r = ix e + 1 ∧ hi r = hi e) ∧
  (∀ e, e ∈ E → (pa e = none → root = some e) ∧ ∀ p, pa e = some p → p ∈ E ∧ (lf p = some e ∨ rt p = some e)) ∧
  ((root = none → E.length = 0) ∧ ∀ r, root = some r → r ∈ E ∧ pa r = none ∧ lo r = 0 ∧ hi r = E.length)
def rlf (lf pa : Nat → Option Nat) (p r : Nat) : Nat → Option Nat := fun e => if e = r then some p else if pa p = some e ∧ lf e = some p then some r else lf e
def rrt (lf rt pa : Nat → Option Nat) (p r : Nat) : Nat → Option Nat := fun e => if e = p then lf r else if pa p = some e ∧ lf e ≠ some p then some r else rt e
def rpa (lf pa : Nat → Option Nat) (p r : Nat) : Nat → Option Nat := fun e => if e = p then some r else if e = r then pa p else if lf r = some e then some p else pa e
theorem Inv.inj {E : List Nat} {ix lo hi : Nat → Nat} {lf rt pa : Nat → Option Nat} {root : Option Nat} (h : Inv E ix lo hi lf rt pa root) {a b : Nat} (ha : a ∈ E) (hb : b ∈ E) (e : ix a = ix b) : a = b := by
  have h1 := h.1 a ha
  have h2 := h.1 b hb
  rw [e, h2] at h1
  exact (Option.some.inj h1).symm
set_option maxHeartbeats 4000000 in
theorem Inv.rotL {E : List Nat} {ix lo hi : Nat → Nat} {lf rt pa : Nat → Option Nat} {root : Option Nat} (h : Inv E ix lo hi lf rt pa root) {p r : Nat} (hp : p ∈ E) (hr : rt p = some r) :
    Inv E ix (va_up lo r (lo p)) (va_up hi p (ix r)) (rlf lf pa p r) (rrt lf rt pa p r) (rpa lf pa p r) (if pa p = none then some r else root) := by
  have hinj := fun a b => @Inv.inj E ix lo hi lf rt pa root h a b
  obtain ⟨h0, h1, h2, h3, h4, h5⟩ := h
  unfold Inv rlf rrt rpa va_up
  refine ⟨h0, ?_, ?_, ?_, ?_, ?_⟩
  · grind
  · grind
  · grind
  · grind
  · grind

set_option maxHeartbeats 4000000 in
theorem Inv.rotR {E : List Nat} {ix lo hi : Nat → Nat} {lf rt pa : Nat → Option Nat} {root : Option Nat} (h : Inv E ix lo hi lf rt pa root) {p r : Nat} (hp : p ∈ E) (hr : lf p = some r) :
    Inv E ix (va_up lo p (ix r + 1)) (va_up hi r (hi p)) (rrt rt lf pa p r) (rlf rt pa p r) (rpa rt pa p r) (if pa p = none then some r else root) := by
  have hinj := fun a b => @Inv.inj E ix lo hi lf rt pa root h a b
  obtain ⟨h0, h1, h2, h3, h4, h5⟩ := h
  unfold Inv rlf rrt rpa va_up
  refine ⟨h0, ?_, ?_, ?_, ?_, ?_⟩
  · grind
  · grind
  · grind
  · grind
  · grind
/-- the heap h0 with a TreeMap tm and its entries E laid over it -/
def tmO (E : List Nat) (tm : Nat) (ka va : Nat → Nat) (lf rt pa : Nat → Option Nat) (co : Nat → Bool) (vl root : Option Nat) (n : Nat) (md : Int32) (h0 : AHT) : AHT := fun x =>
  if x ∈ E then some (ob 19 [.ref (ka x), .ref (va x), va_rf (lf x), va_rf (rt x), va_rf (pa x), .int (b2 (co x))]) else if x = tm then some (ob 10 [.null, va_rf vl, .null, va_rf root, .int (nI n), .int md, .null, .null, .null]) else h0 x
section TM
variable {E : List Nat} {tm : Nat} {ka va : Nat → Nat} {lf rt pa : Nat → Option Nat} {co : Nat → Bool} {vl root : Option Nat} {n : Nat} {md : Int32} {h0 : AHT} {e : Nat}
theorem tm_e (he : e ∈ E) : tmO E tm ka va lf rt pa co vl root n md h0 e = some (ob 19 [.ref (ka e), .ref (va e), va_rf (lf e), va_rf (rt e), va_rf (pa e), .int (b2 (co e))]) := if_pos he
theorem tm_t (ht : tm ∉ E) : tmO E tm ka va lf rt pa co vl root n md h0 tm = some (ob 10 [.null, va_rf vl, .null, va_rf root, .int (nI n), .int md, .null, .null, .null]) := by
  unfold tmO; rw [if_neg ht, if_pos rfl]
theorem tm_lf {o : Option Nat} (he : e ∈ E) : up (tmO E tm ka va lf rt pa co vl root n md h0) e (ob 19 [.ref (ka e), .ref (va e), va_rf o, va_rf (rt e), va_rf (pa e), .int (b2 (co e))]) = tmO E tm ka va (va_up lf e o) rt pa co vl root n md h0 := by
  funext x; unfold up tmO va_up; by_cases h : x = e <;> simp_all
theorem tm_rt {o : Option Nat} (he : e ∈ E) : up (tmO E tm ka va lf rt pa co vl root n md h0) e (ob 19 [.ref (ka e), .ref (va e), va_rf (lf e), va_rf o, va_rf (pa e), .int (b2 (co e))]) = tmO E tm ka va lf (va_up rt e o) pa co vl root n md h0 := by
  funext x; unfold up tmO va_up; by_cases h : x = e <;> simp_all
theorem tm_pa {o : Option Nat} (he : e ∈ E) : up (tmO E tm ka va lf rt pa co vl root n md h0) e (ob 19 [.ref (ka e), .ref (va e), va_rf (lf e), va_rf (rt e), va_rf o, .int (b2 (co e))]) = tmO E tm ka va lf rt (va_up pa e o) co vl root n md h0 := by
  funext x; unfold up tmO va_up; by_cases h : x = e <;> simp_all
theorem tm_co {b : Bool} (he : e ∈ E) : up (tmO E tm ka va lf rt pa co vl root n md h0) e (ob 19 [.ref (ka e), .ref (va e), va_rf (lf e), va_rf (rt e), va_rf (pa e), .int (b2 b)]) = tmO E tm ka va lf rt pa (va_up co e b) vl root n md h0 := by
  funext x; unfold up tmO va_up; by_cases h : x = e <;> simp_all
theorem tm_ka {b : Nat} (he : e ∈ E) : up (tmO E tm ka va lf rt pa co vl root n md h0) e (ob 19 [.ref b, .ref (va e), va_rf (lf e), va_rf (rt e), va_rf (pa e), .int (b2 (co e))]) = tmO E tm (va_up ka e b) va lf rt pa co vl root n md h0 := by
  funext x; unfold up tmO va_up; by_cases h : x = e <;> simp_all
theorem tm_va {b : Nat} (he : e ∈ E) : up (tmO E tm ka va lf rt pa co vl root n md h0) e (ob 19 [.ref (ka e), .ref b, va_rf (lf e), va_rf (rt e), va_rf (pa e), .int (b2 (co e))]) = tmO E tm ka (va_up va e b) lf rt pa co vl root n md h0 := by
  funext x; unfold up tmO va_up; by_cases h : x = e <;> simp_all
theorem tm_tm {vl' root' : Option Nat} {n' : Nat} {md' : Int32} (ht : tm ∉ E) : up (tmO E tm ka va lf rt pa co vl root n md h0) tm (ob 10 [.null, va_rf vl', .null, va_rf root', .int (nI n'), .int md', .null, .null, .null]) = tmO E tm ka va lf rt pa co vl' root' n' md' h0 := by
  funext x; unfold up tmO; by_cases h : x = tm <;> simp_all
end TM

theorem opt_c (o : Option Nat) : o = none ∨ ∃ x, o = some x := by cases o; exact Or.inl rfl; exact Or.inr ⟨_, rfl⟩
abbrev cJ1_parentOf : ByteArray := prog_68_method_77_code
def yJ1_parentOf : MethodName := ⟨RJ1, "parentOf", "(Ljava/util/TreeMap$Entry;)Ljava/util/TreeMap$Entry;"⟩
def dkwJ1_parentOf_0 : List UInt8 := [42, 199, 0, 7, 1, 167, 0, 7, 42, 180, 0, 124, 176]
abbrev dktJ1_parentOf_0 : List UInt8 := dkwJ1_parentOf_0 ++ []
theorem dksJ1_parentOf_0 : cJ1_parentOf.data.toList.drop 0 = dktJ1_parentOf_0 := by decide +kernel
theorem dJ1_parentOf_0 : decode cJ1_parentOf 0 = .ok (.aload_n 0, 1) := dk_42 (dk_at dksJ1_parentOf_0 0 rfl rfl)
theorem dJ1_parentOf_1 : decode cJ1_parentOf 1 = .ok (.ifnonnull 7, 3) := dk_199 0 7 (dk_at dksJ1_parentOf_0 1 rfl rfl)
theorem dJ1_parentOf_4 : decode cJ1_parentOf 4 = .ok (.aconst_null, 1) := dk_1 (dk_at dksJ1_parentOf_0 4 rfl rfl)
theorem dJ1_parentOf_5 : decode cJ1_parentOf 5 = .ok (.goto 7, 3) := dk_167 0 7 (dk_at dksJ1_parentOf_0 5 rfl rfl)
theorem dJ1_parentOf_8 : decode cJ1_parentOf 8 = .ok (.aload_n 0, 1) := dk_42 (dk_at dksJ1_parentOf_0 8 rfl rfl)
theorem dJ1_parentOf_9 : decode cJ1_parentOf 9 = .ok (.getfield 124, 3) := dk_180 0 124 (dk_at dksJ1_parentOf_0 9 rfl rfl)
theorem dJ1_parentOf_12 : decode cJ1_parentOf 12 = .ok (.areturn, 1) := dk_176 (dk_at dksJ1_parentOf_0 12 rfl rfl)
set_option maxHeartbeats 4000000 in
theorem m_parentOfN (l : Launch) (hl : l.stackTraces = false) (g : GE) (A : Nat → Prop) (E : List Nat) (tm : Nat) (ka va : Nat → Nat) (lf rt pa : Nat → Option Nat) (co : Nat → Bool) (vl root : Option Nat) (n : Nat) (md : Int32) (h0 : AHT) : U_ l g A yJ1_parentOf 1 0 0 [.null] (tmO E tm ka va lf rt pa co vl root n md h0) (fun v h' => v = some (va_rf (Option.bind none pa)) ∧ (tmO E tm ka va lf rt pa co vl root n md h0) = h') noX := by
  refine U_.of (own := RJ1) (cc := cJ1_parentOf) (L := 1) (ret := (some (Jvm.ClassFile.FieldType.object "java/util/TreeMap$Entry"))) hl rfl (plainFor_of_name (by decide)) ⟨by decide, by decide⟩ q1056 q85 (by decide) (fun e => absurd e (by decide)) (Nat.le_of_ble_eq_true rfl) (fun κ cx => ?_)
  show V g A κ _ _ 0 0 (tmO E tm ka va lf rt pa co vl root n md h0) 0 [(0, .null)] []
  refine V.aload_nN cx dJ1_parentOf_0 rfl 0 rfl ?_
  refine V.ifnonnullN cx dJ1_parentOf_1 ?_
  refine V.null cx dJ1_parentOf_4 ?_
  refine V.goto (tgt := 12) cx dJ1_parentOf_5 (by decide) ?_
  exact V.areturnN cx rfl (Or.inl ⟨_, rfl⟩) ⟨rfl, rfl⟩ (by decide) (by decide) dJ1_parentOf_12
set_option maxHeartbeats 4000000 in
theorem m_parentOfS (l : Launch) (hl : l.stackTraces = false) (g : GE) (A : Nat → Prop) (E : List Nat) (tm : Nat) (ka va : Nat → Nat) (lf rt pa : Nat → Option Nat) (co : Nat → Bool) (vl root : Option Nat) (n : Nat) (md : Int32) (h0 : AHT) (e : Nat) (he : e ∈ E) : U_ l g A yJ1_parentOf 1 0 0 [.ref e] (tmO E tm ka va lf rt pa co vl root n md h0) (fun v h' => v = some (va_rf (Option.bind (some e) pa)) ∧ (tmO E tm ka va lf rt pa co vl root n md h0) = h') noX := by
  refine U_.of (own := RJ1) (cc := cJ1_parentOf) (L := 1) (ret := (some (Jvm.ClassFile.FieldType.object "java/util/TreeMap$Entry"))) hl rfl (plainFor_of_name (by decide)) ⟨by decide, by decide⟩ q1056 q85 (by decide) (fun e => absurd e (by decide)) (Nat.le_of_ble_eq_true rfl) (fun κ cx => ?_)
  show V g A κ _ _ 0 0 (tmO E tm ka va lf rt pa co vl root n md h0) 0 [(0, .ref e)] []
  refine V.aload_n cx dJ1_parentOf_0 rfl 0 rfl ?_
  refine V.ifnonnull (tgt := 8) cx dJ1_parentOf_1 (by decide) ?_
  refine V.aload_n cx dJ1_parentOf_8 rfl 0 rfl ?_
  refine V.get cx kJ25 (tm_e he) 4 (by decide) q1030 rfl rfl dJ1_parentOf_9 ?_
  show V g A κ _ _ 0 0 (tmO E tm ka va lf rt pa co vl root n md h0) 12 [(0, .ref e)] [va_rf (pa e)]
  exact V.areturnq cx rfl (Or.inl ⟨_, rfl⟩) ⟨rfl, rfl⟩ (by decide) (by decide) dJ1_parentOf_12
theorem m_parentOf (l : Launch) (hl : l.stackTraces = false) (g : GE) (A : Nat → Prop) (E : List Nat) (tm : Nat) (ka va : Nat → Nat) (lf rt pa : Nat → Option Nat) (co : Nat → Bool) (vl root : Option Nat) (n : Nat) (md : Int32) (h0 : AHT) (o : Option Nat) (ho : ∀ e, o = some e → e ∈ E) : U_ l g A yJ1_parentOf 1 0 0 [va_rf o] (tmO E tm ka va lf rt pa co vl root n md h0) (fun v h' => v = some (va_rf (Option.bind o pa)) ∧ (tmO E tm ka va lf rt pa co vl root n md h0) = h') noX := by
  cases o with
  | none => exact m_parentOfN l hl g A E tm ka va lf rt pa co vl root n md h0
  | some e => exact m_parentOfS l hl g A E tm ka va lf rt pa co vl root n md h0 e (ho e rfl)
abbrev cJ1_leftOf : ByteArray := prog_68_method_79_code
def yJ1_leftOf : MethodName := ⟨RJ1, "leftOf", "(Ljava/util/TreeMap$Entry;)Ljava/util/TreeMap$Entry;"⟩
def dkwJ1_leftOf_0 : List UInt8 := [42, 199, 0, 7, 1, 167, 0, 7, 42, 180, 0, 111, 176]
abbrev dktJ1_leftOf_0 : List UInt8 := dkwJ1_leftOf_0 ++ []
theorem dksJ1_leftOf_0 : cJ1_leftOf.data.toList.drop 0 = dktJ1_leftOf_0 := by decide +kernel
theorem dJ1_leftOf_0 : decode cJ1_leftOf 0 = .ok (.aload_n 0, 1) := dk_42 (dk_at dksJ1_leftOf_0 0 rfl rfl)
theorem dJ1_leftOf_1 : decode cJ1_leftOf 1 = .ok (.ifnonnull 7, 3) := dk_199 0 7 (dk_at dksJ1_leftOf_0 1 rfl rfl)
theorem dJ1_leftOf_4 : decode cJ1_leftOf 4 = .ok (.aconst_null, 1) := dk_1 (dk_at dksJ1_leftOf_0 4 rfl rfl)
theorem dJ1_leftOf_5 : decode cJ1_leftOf 5 = .ok (.goto 7, 3) := dk_167 0 7 (dk_at dksJ1_leftOf_0 5 rfl rfl)
theorem dJ1_leftOf_8 : decode cJ1_leftOf 8 = .ok (.aload_n 0, 1) := dk_42 (dk_at dksJ1_leftOf_0 8 rfl rfl)
theorem dJ1_leftOf_9 : decode cJ1_leftOf 9 = .ok (.getfield 111, 3) := dk_180 0 111 (dk_at dksJ1_leftOf_0 9 rfl rfl)
theorem dJ1_leftOf_12 : decode cJ1_leftOf 12 = .ok (.areturn, 1) := dk_176 (dk_at dksJ1_leftOf_0 12 rfl rfl)
set_option maxHeartbeats 4000000 in
theorem m_leftOfN (l : Launch) (hl : l.stackTraces = false) (g : GE) (A : Nat → Prop) (E : List Nat) (tm : Nat) (ka va : Nat → Nat) (lf rt pa : Nat → Option Nat) (co : Nat → Bool) (vl root : Option Nat) (n : Nat) (md : Int32) (h0 : AHT) : U_ l g A yJ1_leftOf 1 0 0 [.null] (tmO E tm ka va lf rt pa co vl root n md h0) (fun v h' => v = some (va_rf (Option.bind none lf)) ∧ (tmO E tm ka va lf rt pa co vl root n md h0) = h') noX := by
  refine U_.of (own := RJ1) (cc := cJ1_leftOf) (L := 1) (ret := (some (Jvm.ClassFile.FieldType.object "java/util/TreeMap$Entry"))) hl rfl (plainFor_of_name (by decide)) ⟨by decide, by decide⟩ q1059 q85 (by decide) (fun e => absurd e (by decide)) (Nat.le_of_ble_eq_true rfl) (fun κ cx => ?_)
  show V g A κ _ _ 0 0 (tmO E tm ka va lf rt pa co vl root n md h0) 0 [(0, .null)] []
  refine V.aload_nN cx dJ1_leftOf_0 rfl 0 rfl ?_
  refine V.ifnonnullN cx dJ1_leftOf_1 ?_
  refine V.null cx dJ1_leftOf_4 ?_
  refine V.goto (tgt := 12) cx dJ1_leftOf_5 (by decide) ?_
  exact V.areturnN cx rfl (Or.inl ⟨_, rfl⟩) ⟨rfl, rfl⟩ (by decide) (by decide) dJ1_leftOf_12
set_option maxHeartbeats 4000000 in
theorem m_leftOfS (l : Launch) (hl : l.stackTraces = false) (g : GE) (A : Nat → Prop) (E : List Nat) (tm : Nat) (ka va : Nat → Nat) (lf rt pa : Nat → Option Nat) (co : Nat → Bool) (vl root : Option Nat) (n : Nat) (md : Int32) (h0 : AHT) (e : Nat) (he : e ∈ E) : U_ l g A yJ1_leftOf 1 0 0 [.ref e] (tmO E tm ka va lf rt pa co vl root n md h0) (fun v h' => v = some (va_rf (Option.bind (some e) lf)) ∧ (tmO E tm ka va lf rt pa co vl root n md h0) = h') noX := by
  refine U_.of (own := RJ1) (cc := cJ1_leftOf) (L := 1) (ret := (some (Jvm.ClassFile.FieldType.object "java/util/TreeMap$Entry"))) hl rfl (plainFor_of_name (by decide)) ⟨by decide, by decide⟩ q1059 q85 (by decide) (fun e => absurd e (by decide)) (Nat.le_of_ble_eq_true rfl) (fun κ cx => ?_)
  show V g A κ _ _ 0 0 (tmO E tm ka va lf rt pa co vl root n md h0) 0 [(0, .ref e)] []
  refine V.aload_n cx dJ1_leftOf_0 rfl 0 rfl ?_
  refine V.ifnonnull (tgt := 8) cx dJ1_leftOf_1 (by decide) ?_
  refine V.aload_n cx dJ1_leftOf_8 rfl 0 rfl ?_
  refine V.get cx kJ25 (tm_e he) 2 (by decide) q1027 rfl rfl dJ1_leftOf_9 ?_
  show V g A κ _ _ 0 0 (tmO E tm ka va lf rt pa co vl root n md h0) 12 [(0, .ref e)] [va_rf (lf e)]
  exact V.areturnq cx rfl (Or.inl ⟨_, rfl⟩) ⟨rfl, rfl⟩ (by decide) (by decide) dJ1_leftOf_12
theorem m_leftOf (l : Launch) (hl : l.stackTraces = false) (g : GE) (A : Nat → Prop) (E : List Nat) (tm : Nat) (ka va : Nat → Nat) (lf rt pa : Nat → Option Nat) (co : Nat → Bool) (vl root : Option Nat) (n : Nat) (md : Int32) (h0 : AHT) (o : Option Nat) (ho : ∀ e, o = some e → e ∈ E) : U_ l g A yJ1_leftOf 1 0 0 [va_rf o] (tmO E tm ka va lf rt pa co vl root n md h0) (fun v h' => v = some (va_rf (Option.bind o lf)) ∧ (tmO E tm ka va lf rt pa co vl root n md h0) = h') noX := by
  cases o with
  | none => exact m_leftOfN l hl g A E tm ka va lf rt pa co vl root n md h0
  | some e => exact m_leftOfS l hl g A E tm ka va lf rt pa co vl root n md h0 e (ho e rfl)
abbrev cJ1_rightOf : ByteArray := prog_68_method_80_code
def yJ1_rightOf : MethodName := ⟨RJ1, "rightOf", "(Ljava/util/TreeMap$Entry;)Ljava/util/TreeMap$Entry;"⟩
def dkwJ1_rightOf_0 : List UInt8 := [42, 199, 0, 7, 1, 167, 0, 7, 42, 180, 0, 114, 176]
abbrev dktJ1_rightOf_0 : List UInt8 := dkwJ1_rightOf_0 ++ []
theorem dksJ1_rightOf_0 : cJ1_rightOf.data.toList.drop 0 = dktJ1_rightOf_0 := by decide +kernel
theorem dJ1_rightOf_0 : decode cJ1_rightOf 0 = .ok (.aload_n 0, 1) := dk_42 (dk_at dksJ1_rightOf_0 0 rfl rfl)
theorem dJ1_rightOf_1 : decode cJ1_rightOf 1 = .ok (.ifnonnull 7, 3) := dk_199 0 7 (dk_at dksJ1_rightOf_0 1 rfl rfl)
theorem dJ1_rightOf_4 : decode cJ1_rightOf 4 = .ok (.aconst_null, 1) := dk_1 (dk_at dksJ1_rightOf_0 4 rfl rfl)
theorem dJ1_rightOf_5 : decode cJ1_rightOf 5 = .ok (.goto 7, 3) := dk_167 0 7 (dk_at dksJ1_rightOf_0 5 rfl rfl)
theorem dJ1_rightOf_8 : decode cJ1_rightOf 8 = .ok (.aload_n 0, 1) := dk_42 (dk_at dksJ1_rightOf_0 8 rfl rfl)
theorem dJ1_rightOf_9 : decode cJ1_rightOf 9 = .ok (.getfield 114, 3) := dk_180 0 114 (dk_at dksJ1_rightOf_0 9 rfl rfl)
theorem dJ1_rightOf_12 : decode cJ1_rightOf 12 = .ok (.areturn, 1) := dk_176 (dk_at dksJ1_rightOf_0 12 rfl rfl)
set_option maxHeartbeats 4000000 in
theorem m_rightOfN (l : Launch) (hl : l.stackTraces = false) (g : GE) (A : Nat → Prop) (E : List Nat) (tm : Nat) (ka va : Nat → Nat) (lf rt pa : Nat → Option Nat) (co : Nat → Bool) (vl root : Option Nat) (n : Nat) (md : Int32) (h0 : AHT) : U_ l g A yJ1_rightOf 1 0 0 [.null] (tmO E tm ka va lf rt pa co vl root n md h0) (fun v h' => v = some (va_rf (Option.bind none rt)) ∧ (tmO E tm ka va lf rt pa co vl root n md h0) = h') noX := by
  refine U_.of (own := RJ1) (cc := cJ1_rightOf) (L := 1) (ret := (some (Jvm.ClassFile.FieldType.object "java/util/TreeMap$Entry"))) hl rfl (plainFor_of_name (by decide)) ⟨by decide, by decide⟩ q1062 q85 (by decide) (fun e => absurd e (by decide)) (Nat.le_of_ble_eq_true rfl) (fun κ cx => ?_)
  show V g A κ _ _ 0 0 (tmO E tm ka va lf rt pa co vl root n md h0) 0 [(0, .null)] []
  refine V.aload_nN cx dJ1_rightOf_0 rfl 0 rfl ?_
  refine V.ifnonnullN cx dJ1_rightOf_1 ?_
  refine V.null cx dJ1_rightOf_4 ?_
  refine V.goto (tgt := 12) cx dJ1_rightOf_5 (by decide) ?_
  exact V.areturnN cx rfl (Or.inl ⟨_, rfl⟩) ⟨rfl, rfl⟩ (by decide) (by decide) dJ1_rightOf_12
set_option maxHeartbeats 4000000 in
theorem m_rightOfS (l : Launch) (hl : l.stackTraces = false) (g : GE) (A : Nat → Prop) (E : List Nat) (tm : Nat) (ka va : Nat → Nat) (lf rt pa : Nat → Option Nat) (co : Nat → Bool) (vl root : Option Nat) (n : Nat) (md : Int32) (h0 : AHT) (e : Nat) (he : e ∈ E) : U_ l g A yJ1_rightOf 1 0 0 [.ref e] (tmO E tm ka va lf rt pa co vl root n md h0) (fun v h' => v = some (va_rf (Option.bind (some e) rt)) ∧ (tmO E tm ka va lf rt pa co vl root n md h0) = h') noX := by
  refine U_.of (own := RJ1) (cc := cJ1_rightOf) (L := 1) (ret := (some (Jvm.ClassFile.FieldType.object "java/util/TreeMap$Entry"))) hl rfl (plainFor_of_name (by decide)) ⟨by decide, by decide⟩ q1062 q85 (by decide) (fun e => absurd e (by decide)) (Nat.le_of_ble_eq_true rfl) (fun κ cx => ?_)
  show V g A κ _ _ 0 0 (tmO E tm ka va lf rt pa co vl root n md h0) 0 [(0, .ref e)] []
  refine V.aload_n cx dJ1_rightOf_0 rfl 0 rfl ?_
  refine V.ifnonnull (tgt := 8) cx dJ1_rightOf_1 (by decide) ?_
  refine V.aload_n cx dJ1_rightOf_8 rfl 0 rfl ?_
  refine V.get cx kJ25 (tm_e he) 3 (by decide) q1028 rfl rfl dJ1_rightOf_9 ?_
  show V g A κ _ _ 0 0 (tmO E tm ka va lf rt pa co vl root n md h0) 12 [(0, .ref e)] [va_rf (rt e)]
  exact V.areturnq cx rfl (Or.inl ⟨_, rfl⟩) ⟨rfl, rfl⟩ (by decide) (by decide) dJ1_rightOf_12
theorem m_rightOf (l : Launch) (hl : l.stackTraces = false) (g : GE) (A : Nat → Prop) (E : List Nat) (tm : Nat) (ka va : Nat → Nat) (lf rt pa : Nat → Option Nat) (co : Nat → Bool) (vl root : Option Nat) (n : Nat) (md : Int32) (h0 : AHT) (o : Option Nat) (ho : ∀ e, o = some e → e ∈ E) : U_ l g A yJ1_rightOf 1 0 0 [va_rf o] (tmO E tm ka va lf rt pa co vl root n md h0) (fun v h' => v = some (va_rf (Option.bind o rt)) ∧ (tmO E tm ka va lf rt pa co vl root n md h0) = h') noX := by
  cases o with
  | none => exact m_rightOfN l hl g A E tm ka va lf rt pa co vl root n md h0
  | some e => exact m_rightOfS l hl g A E tm ka va lf rt pa co vl root n md h0 e (ho e rfl)
abbrev cJ1_colorOf : ByteArray := prog_68_method_76_code
def yJ1_colorOf : MethodName := ⟨RJ1, "colorOf", "(Ljava/util/TreeMap$Entry;)Z"⟩
def dkwJ1_colorOf_0 : List UInt8 := [42, 199, 0, 7, 4, 167, 0, 7, 42, 180, 1, 34, 172]
abbrev dktJ1_colorOf_0 : List UInt8 := dkwJ1_colorOf_0 ++ []
theorem dksJ1_colorOf_0 : cJ1_colorOf.data.toList.drop 0 = dktJ1_colorOf_0 := by decide +kernel
theorem dJ1_colorOf_0 : decode cJ1_colorOf 0 = .ok (.aload_n 0, 1) := dk_42 (dk_at dksJ1_colorOf_0 0 rfl rfl)
theorem dJ1_colorOf_1 : decode cJ1_colorOf 1 = .ok (.ifnonnull 7, 3) := dk_199 0 7 (dk_at dksJ1_colorOf_0 1 rfl rfl)
theorem dJ1_colorOf_4 : decode cJ1_colorOf 4 = .ok (.iconst 1, 1) := dk_4 (dk_at dksJ1_colorOf_0 4 rfl rfl)
theorem dJ1_colorOf_5 : decode cJ1_colorOf 5 = .ok (.goto 7, 3) := dk_167 0 7 (dk_at dksJ1_colorOf_0 5 rfl rfl)
theorem dJ1_colorOf_8 : decode cJ1_colorOf 8 = .ok (.aload_n 0, 1) := dk_42 (dk_at dksJ1_colorOf_0 8 rfl rfl)
theorem dJ1_colorOf_9 : decode cJ1_colorOf 9 = .ok (.getfield 290, 3) := dk_180 1 34 (dk_at dksJ1_colorOf_0 9 rfl rfl)
theorem dJ1_colorOf_12 : decode cJ1_colorOf 12 = .ok (.ireturn, 1) := dk_172 (dk_at dksJ1_colorOf_0 12 rfl rfl)
set_option maxHeartbeats 4000000 in
theorem m_colorOfN (l : Launch) (hl : l.stackTraces = false) (g : GE) (A : Nat → Prop) (E : List Nat) (tm : Nat) (ka va : Nat → Nat) (lf rt pa : Nat → Option Nat) (co : Nat → Bool) (vl root : Option Nat) (n : Nat) (md : Int32) (h0 : AHT) : U_ l g A yJ1_colorOf 1 0 0 [.null] (tmO E tm ka va lf rt pa co vl root n md h0) (fun v h' => v = some (.int (b2 (Option.elim none true co))) ∧ (tmO E tm ka va lf rt pa co vl root n md h0) = h') noX := by
  refine U_.of (own := RJ1) (cc := cJ1_colorOf) (L := 1) (ret := (some Jvm.ClassFile.FieldType.boolean)) hl rfl (plainFor_of_name (by decide)) ⟨by decide, by decide⟩ q1065 q85 (by decide) (fun e => absurd e (by decide)) (Nat.le_of_ble_eq_true rfl) (fun κ cx => ?_)
  show V g A κ _ _ 0 0 (tmO E tm ka va lf rt pa co vl root n md h0) 0 [(0, .null)] []
  refine V.aload_nN cx dJ1_colorOf_0 rfl 0 rfl ?_
  refine V.ifnonnullN cx dJ1_colorOf_1 ?_
  refine V.iconst (v := (nI 1)) cx dJ1_colorOf_4 (by decide) ?_
  refine V.goto (tgt := 12) cx dJ1_colorOf_5 (by decide) ?_
  refine V.toi (y := b2 true) (by decide) ?_
  exact V.ireturn (x := (b2 true)) cx rfl b2_narrow ⟨rfl, rfl⟩ (by decide) (by decide) dJ1_colorOf_12
set_option maxHeartbeats 4000000 in
theorem m_colorOfS (l : Launch) (hl : l.stackTraces = false) (g : GE) (A : Nat → Prop) (E : List Nat) (tm : Nat) (ka va : Nat → Nat) (lf rt pa : Nat → Option Nat) (co : Nat → Bool) (vl root : Option Nat) (n : Nat) (md : Int32) (h0 : AHT) (e : Nat) (he : e ∈ E) : U_ l g A yJ1_colorOf 1 0 0 [.ref e] (tmO E tm ka va lf rt pa co vl root n md h0) (fun v h' => v = some (.int (b2 (Option.elim (some e) true co))) ∧ (tmO E tm ka va lf rt pa co vl root n md h0) = h') noX := by
  refine U_.of (own := RJ1) (cc := cJ1_colorOf) (L := 1) (ret := (some Jvm.ClassFile.FieldType.boolean)) hl rfl (plainFor_of_name (by decide)) ⟨by decide, by decide⟩ q1065 q85 (by decide) (fun e => absurd e (by decide)) (Nat.le_of_ble_eq_true rfl) (fun κ cx => ?_)
  show V g A κ _ _ 0 0 (tmO E tm ka va lf rt pa co vl root n md h0) 0 [(0, .ref e)] []
  refine V.aload_n cx dJ1_colorOf_0 rfl 0 rfl ?_
  refine V.ifnonnull (tgt := 8) cx dJ1_colorOf_1 (by decide) ?_
  refine V.aload_n cx dJ1_colorOf_8 rfl 0 rfl ?_
  refine V.get cx kJ25 (tm_e he) 5 (by decide) q1032 rfl rfl dJ1_colorOf_9 ?_
  show V g A κ _ _ 0 0 (tmO E tm ka va lf rt pa co vl root n md h0) 12 [(0, .ref e)] [.int (b2 (co e))]
  exact V.ireturn (x := (b2 (co e))) cx rfl b2_narrow ⟨rfl, rfl⟩ (by decide) (by decide) dJ1_colorOf_12
theorem m_colorOf (l : Launch) (hl : l.stackTraces = false) (g : GE) (A : Nat → Prop) (E : List Nat) (tm : Nat) (ka va : Nat → Nat) (lf rt pa : Nat → Option Nat) (co : Nat → Bool) (vl root : Option Nat) (n : Nat) (md : Int32) (h0 : AHT) (o : Option Nat) (ho : ∀ e, o = some e → e ∈ E) : U_ l g A yJ1_colorOf 1 0 0 [va_rf o] (tmO E tm ka va lf rt pa co vl root n md h0) (fun v h' => v = some (.int (b2 (Option.elim o true co))) ∧ (tmO E tm ka va lf rt pa co vl root n md h0) = h') noX := by
  cases o with
  | none => exact m_colorOfN l hl g A E tm ka va lf rt pa co vl root n md h0
  | some e => exact m_colorOfS l hl g A E tm ka va lf rt pa co vl root n md h0 e (ho e rfl)
def setC (co : Nat → Bool) (o : Option Nat) (b : Bool) : Nat → Bool := match o with
  | none => co
  | some e => va_up co e b
abbrev cJ1_setColor : ByteArray := prog_68_method_78_code
def yJ1_setColor : MethodName := ⟨RJ1, "setColor", "(Ljava/util/TreeMap$Entry;Z)V"⟩
def dkwJ1_setColor_0 : List UInt8 := [42, 198, 0, 8, 42, 27, 181, 1, 34, 177]
abbrev dktJ1_setColor_0 : List UInt8 := dkwJ1_setColor_0 ++ []
theorem dksJ1_setColor_0 : cJ1_setColor.data.toList.drop 0 = dktJ1_setColor_0 := by decide +kernel
theorem dJ1_setColor_0 : decode cJ1_setColor 0 = .ok (.aload_n 0, 1) := dk_42 (dk_at dksJ1_setColor_0 0 rfl rfl)
theorem dJ1_setColor_1 : decode cJ1_setColor 1 = .ok (.ifnull 8, 3) := dk_198 0 8 (dk_at dksJ1_setColor_0 1 rfl rfl)
theorem dJ1_setColor_4 : decode cJ1_setColor 4 = .ok (.aload_n 0, 1) := dk_42 (dk_at dksJ1_setColor_0 4 rfl rfl)
theorem dJ1_setColor_5 : decode cJ1_setColor 5 = .ok (.iload_n 1, 1) := dk_27 (dk_at dksJ1_setColor_0 5 rfl rfl)
theorem dJ1_setColor_6 : decode cJ1_setColor 6 = .ok (.putfield 290, 3) := dk_181 1 34 (dk_at dksJ1_setColor_0 6 rfl rfl)
theorem dJ1_setColor_9 : decode cJ1_setColor 9 = .ok (.return_, 1) := dk_177 (dk_at dksJ1_setColor_0 9 rfl rfl)
set_option maxHeartbeats 4000000 in
theorem m_setColorN (l : Launch) (hl : l.stackTraces = false) (g : GE) (A : Nat → Prop) (E : List Nat) (tm : Nat) (ka va : Nat → Nat) (lf rt pa : Nat → Option Nat) (co : Nat → Bool) (vl root : Option Nat) (n : Nat) (md : Int32) (h0 : AHT) (b : Bool) : U_ l g A yJ1_setColor 1 0 0 [.null, .int (b2 b)] (tmO E tm ka va lf rt pa co vl root n md h0) (fun v h' => v = none ∧ (tmO E tm ka va lf rt pa (setC co none b) vl root n md h0) = h') noX := by
  refine U_.of (own := RJ1) (cc := cJ1_setColor) (L := 2) (ret := (none)) hl rfl (plainFor_of_name (by decide)) ⟨by decide, by decide⟩ q1068 q85 (by decide) (fun e => absurd e (by decide)) (Nat.le_of_ble_eq_true rfl) (fun κ cx => ?_)
  show V g A κ _ _ 0 0 (tmO E tm ka va lf rt pa co vl root n md h0) 0 [(0, .null), (1, .int (b2 b))] []
  refine V.aload_nN cx dJ1_setColor_0 rfl 0 rfl ?_
  refine V.ifnullN (tgt := 9) cx dJ1_setColor_1 (by decide) ?_
  exact V.vreturn cx rfl ⟨rfl, rfl⟩ (by decide) (by decide) dJ1_setColor_9
set_option maxHeartbeats 4000000 in
theorem m_setColorS (l : Launch) (hl : l.stackTraces = false) (g : GE) (A : Nat → Prop) (E : List Nat) (tm : Nat) (ka va : Nat → Nat) (lf rt pa : Nat → Option Nat) (co : Nat → Bool) (vl root : Option Nat) (n : Nat) (md : Int32) (h0 : AHT) (e : Nat) (he : e ∈ E) (b : Bool) : U_ l g A yJ1_setColor 1 0 0 [.ref e, .int (b2 b)] (tmO E tm ka va lf rt pa co vl root n md h0) (fun v h' => v = none ∧ (tmO E tm ka va lf rt pa (setC co (some e) b) vl root n md h0) = h') noX := by
  refine U_.of (own := RJ1) (cc := cJ1_setColor) (L := 2) (ret := (none)) hl rfl (plainFor_of_name (by decide)) ⟨by decide, by decide⟩ q1068 q85 (by decide) (fun e => absurd e (by decide)) (Nat.le_of_ble_eq_true rfl) (fun κ cx => ?_)
  show V g A κ _ _ 0 0 (tmO E tm ka va lf rt pa co vl root n md h0) 0 [(0, .ref e), (1, .int (b2 b))] []
  refine V.aload_n cx dJ1_setColor_0 rfl 0 rfl ?_
  refine V.ifnull cx dJ1_setColor_1 ?_
  refine V.aload_n cx dJ1_setColor_4 rfl 0 rfl ?_
  refine V.iload_n cx dJ1_setColor_5 rfl 1 rfl ?_
  refine V.put (ty := tyJ25 5) cx kJ25 (tm_e he) 5 (by decide) rfl (tyJ25_ok 5 (by decide)) b2_narrow b2_fits (Nat.le_of_ble_eq_true rfl) q1032 rfl dJ1_setColor_6 ?_
  refine V.hto (tm_co (b := b) he) ?_
  show V g A κ _ _ 0 0 (tmO E tm ka va lf rt pa (va_up co e b) vl root n md h0) 9 [(0, .ref e), (1, .int (b2 b))] []
  exact V.vreturn cx rfl ⟨rfl, rfl⟩ (by decide) (by decide) dJ1_setColor_9
theorem m_setColor (l : Launch) (hl : l.stackTraces = false) (g : GE) (A : Nat → Prop) (E : List Nat) (tm : Nat) (ka va : Nat → Nat) (lf rt pa : Nat → Option Nat) (co : Nat → Bool) (vl root : Option Nat) (n : Nat) (md : Int32) (h0 : AHT) (o : Option Nat) (ho : ∀ e, o = some e → e ∈ E) (b : Bool) : U_ l g A yJ1_setColor 1 0 0 [va_rf o, .int (b2 b)] (tmO E tm ka va lf rt pa co vl root n md h0) (fun v h' => v = none ∧ (tmO E tm ka va lf rt pa (setC co o b) vl root n md h0) = h') noX := by
  cases o with
  | none => exact m_setColorN l hl g A E tm ka va lf rt pa co vl root n md h0 b
  | some e => exact m_setColorS l hl g A E tm ka va lf rt pa co vl root n md h0 e (ho e rfl) b
abbrev cJ1_rotateLeft : ByteArray := prog_68_method_81_code
def yJ1_rotateLeft : MethodName := ⟨RJ1, "rotateLeft", "(Ljava/util/TreeMap$Entry;)V"⟩
def dkwJ1_rotateLeft_4 : List UInt8 := [177]
abbrev dktJ1_rotateLeft_4 : List UInt8 := dkwJ1_rotateLeft_4 ++ []
def dkwJ1_rotateLeft_3 : List UInt8 := [181, 0, 111, 167, 0, 11, 43, 180, 0, 124, 44, 181, 0, 114, 44, 43, 181, 0, 111, 43, 44, 181, 0, 124]
abbrev dktJ1_rotateLeft_3 : List UInt8 := dkwJ1_rotateLeft_3 ++ dktJ1_rotateLeft_4
def dkwJ1_rotateLeft_2 : List UInt8 := [44, 181, 0, 101, 167, 0, 33, 43, 180, 0, 124, 180, 0, 111, 43, 166, 0, 14, 43, 180, 0, 124, 44]
abbrev dktJ1_rotateLeft_2 : List UInt8 := dkwJ1_rotateLeft_2 ++ dktJ1_rotateLeft_3
def dkwJ1_rotateLeft_1 : List UInt8 := [44, 180, 0, 111, 43, 181, 0, 124, 44, 43, 180, 0, 124, 181, 0, 124, 43, 180, 0, 124, 199, 0, 11, 42]
abbrev dktJ1_rotateLeft_1 : List UInt8 := dkwJ1_rotateLeft_1 ++ dktJ1_rotateLeft_2
def dkwJ1_rotateLeft_0 : List UInt8 := [43, 198, 0, 94, 43, 180, 0, 114, 77, 43, 44, 180, 0, 111, 181, 0, 114, 44, 180, 0, 111, 198, 0, 11]
abbrev dktJ1_rotateLeft_0 : List UInt8 := dkwJ1_rotateLeft_0 ++ dktJ1_rotateLeft_1
theorem dksJ1_rotateLeft_0 : cJ1_rotateLeft.data.toList.drop 0 = dktJ1_rotateLeft_0 := by decide +kernel
theorem dksJ1_rotateLeft_1 : cJ1_rotateLeft.data.toList.drop 24 = dktJ1_rotateLeft_1 := dk_seg dksJ1_rotateLeft_0 24 rfl rfl
theorem dksJ1_rotateLeft_2 : cJ1_rotateLeft.data.toList.drop 48 = dktJ1_rotateLeft_2 := dk_seg dksJ1_rotateLeft_1 24 rfl rfl
theorem dksJ1_rotateLeft_3 : cJ1_rotateLeft.data.toList.drop 71 = dktJ1_rotateLeft_3 := dk_seg dksJ1_rotateLeft_2 23 rfl rfl
theorem dksJ1_rotateLeft_4 : cJ1_rotateLeft.data.toList.drop 95 = dktJ1_rotateLeft_4 := dk_seg dksJ1_rotateLeft_3 24 rfl rfl
theorem dJ1_rotateLeft_0 : decode cJ1_rotateLeft 0 = .ok (.aload_n 1, 1) := dk_43 (dk_at dksJ1_rotateLeft_0 0 rfl rfl)
theorem dJ1_rotateLeft_1 : decode cJ1_rotateLeft 1 = .ok (.ifnull 94, 3) := dk_198 0 94 (dk_at dksJ1_rotateLeft_0 1 rfl rfl)
theorem dJ1_rotateLeft_4 : decode cJ1_rotateLeft 4 = .ok (.aload_n 1, 1) := dk_43 (dk_at dksJ1_rotateLeft_0 4 rfl rfl)
theorem dJ1_rotateLeft_5 : decode cJ1_rotateLeft 5 = .ok (.getfield 114, 3) := dk_180 0 114 (dk_at dksJ1_rotateLeft_0 5 rfl rfl)
theorem dJ1_rotateLeft_8 : decode cJ1_rotateLeft 8 = .ok (.astore_n 2, 1) := dk_77 (dk_at dksJ1_rotateLeft_0 8 rfl rfl)
theorem dJ1_rotateLeft_9 : decode cJ1_rotateLeft 9 = .ok (.aload_n 1, 1) := dk_43 (dk_at dksJ1_rotateLeft_0 9 rfl rfl)
theorem dJ1_rotateLeft_10 : decode cJ1_rotateLeft 10 = .ok (.aload_n 2, 1) := dk_44 (dk_at dksJ1_rotateLeft_0 10 rfl rfl)
theorem dJ1_rotateLeft_11 : decode cJ1_rotateLeft 11 = .ok (.getfield 111, 3) := dk_180 0 111 (dk_at dksJ1_rotateLeft_0 11 rfl rfl)
theorem dJ1_rotateLeft_14 : decode cJ1_rotateLeft 14 = .ok (.putfield 114, 3) := dk_181 0 114 (dk_at dksJ1_rotateLeft_0 14 rfl rfl)
theorem dJ1_rotateLeft_17 : decode cJ1_rotateLeft 17 = .ok (.aload_n 2, 1) := dk_44 (dk_at dksJ1_rotateLeft_0 17 rfl rfl)
theorem dJ1_rotateLeft_18 : decode cJ1_rotateLeft 18 = .ok (.getfield 111, 3) := dk_180 0 111 (dk_at dksJ1_rotateLeft_0 18 rfl rfl)
theorem dJ1_rotateLeft_21 : decode cJ1_rotateLeft 21 = .ok (.ifnull 11, 3) := dk_198 0 11 (dk_at dksJ1_rotateLeft_0 21 rfl rfl)
theorem dJ1_rotateLeft_24 : decode cJ1_rotateLeft 24 = .ok (.aload_n 2, 1) := dk_44 (dk_at dksJ1_rotateLeft_1 0 rfl rfl)
theorem dJ1_rotateLeft_25 : decode cJ1_rotateLeft 25 = .ok (.getfield 111, 3) := dk_180 0 111 (dk_at dksJ1_rotateLeft_1 1 rfl rfl)
theorem dJ1_rotateLeft_28 : decode cJ1_rotateLeft 28 = .ok (.aload_n 1, 1) := dk_43 (dk_at dksJ1_rotateLeft_1 4 rfl rfl)
theorem dJ1_rotateLeft_29 : decode cJ1_rotateLeft 29 = .ok (.putfield 124, 3) := dk_181 0 124 (dk_at dksJ1_rotateLeft_1 5 rfl rfl)
theorem dJ1_rotateLeft_32 : decode cJ1_rotateLeft 32 = .ok (.aload_n 2, 1) := dk_44 (dk_at dksJ1_rotateLeft_1 8 rfl rfl)
theorem dJ1_rotateLeft_33 : decode cJ1_rotateLeft 33 = .ok (.aload_n 1, 1) := dk_43 (dk_at dksJ1_rotateLeft_1 9 rfl rfl)
theorem dJ1_rotateLeft_34 : decode cJ1_rotateLeft 34 = .ok (.getfield 124, 3) := dk_180 0 124 (dk_at dksJ1_rotateLeft_1 10 rfl rfl)
theorem dJ1_rotateLeft_37 : decode cJ1_rotateLeft 37 = .ok (.putfield 124, 3) := dk_181 0 124 (dk_at dksJ1_rotateLeft_1 13 rfl rfl)
theorem dJ1_rotateLeft_40 : decode cJ1_rotateLeft 40 = .ok (.aload_n 1, 1) := dk_43 (dk_at dksJ1_rotateLeft_1 16 rfl rfl)
theorem dJ1_rotateLeft_41 : decode cJ1_rotateLeft 41 = .ok (.getfield 124, 3) := dk_180 0 124 (dk_at dksJ1_rotateLeft_1 17 rfl rfl)
theorem dJ1_rotateLeft_44 : decode cJ1_rotateLeft 44 = .ok (.ifnonnull 11, 3) := dk_199 0 11 (dk_at dksJ1_rotateLeft_1 20 rfl rfl)
theorem dJ1_rotateLeft_47 : decode cJ1_rotateLeft 47 = .ok (.aload_n 0, 1) := dk_42 (dk_at dksJ1_rotateLeft_1 23 rfl rfl)
theorem dJ1_rotateLeft_48 : decode cJ1_rotateLeft 48 = .ok (.aload_n 2, 1) := dk_44 (dk_at dksJ1_rotateLeft_2 0 rfl rfl)
theorem dJ1_rotateLeft_49 : decode cJ1_rotateLeft 49 = .ok (.putfield 101, 3) := dk_181 0 101 (dk_at dksJ1_rotateLeft_2 1 rfl rfl)
theorem dJ1_rotateLeft_52 : decode cJ1_rotateLeft 52 = .ok (.goto 33, 3) := dk_167 0 33 (dk_at dksJ1_rotateLeft_2 4 rfl rfl)
theorem dJ1_rotateLeft_55 : decode cJ1_rotateLeft 55 = .ok (.aload_n 1, 1) := dk_43 (dk_at dksJ1_rotateLeft_2 7 rfl rfl)
theorem dJ1_rotateLeft_56 : decode cJ1_rotateLeft 56 = .ok (.getfield 124, 3) := dk_180 0 124 (dk_at dksJ1_rotateLeft_2 8 rfl rfl)
theorem dJ1_rotateLeft_59 : decode cJ1_rotateLeft 59 = .ok (.getfield 111, 3) := dk_180 0 111 (dk_at dksJ1_rotateLeft_2 11 rfl rfl)
theorem dJ1_rotateLeft_62 : decode cJ1_rotateLeft 62 = .ok (.aload_n 1, 1) := dk_43 (dk_at dksJ1_rotateLeft_2 14 rfl rfl)
theorem dJ1_rotateLeft_63 : decode cJ1_rotateLeft 63 = .ok (.if_acmp .ne 14, 3) := dk_166 0 14 (dk_at dksJ1_rotateLeft_2 15 rfl rfl)
theorem dJ1_rotateLeft_66 : decode cJ1_rotateLeft 66 = .ok (.aload_n 1, 1) := dk_43 (dk_at dksJ1_rotateLeft_2 18 rfl rfl)
theorem dJ1_rotateLeft_67 : decode cJ1_rotateLeft 67 = .ok (.getfield 124, 3) := dk_180 0 124 (dk_at dksJ1_rotateLeft_2 19 rfl rfl)
theorem dJ1_rotateLeft_70 : decode cJ1_rotateLeft 70 = .ok (.aload_n 2, 1) := dk_44 (dk_at dksJ1_rotateLeft_2 22 rfl rfl)
theorem dJ1_rotateLeft_71 : decode cJ1_rotateLeft 71 = .ok (.putfield 111, 3) := dk_181 0 111 (dk_at dksJ1_rotateLeft_3 0 rfl rfl)
theorem dJ1_rotateLeft_74 : decode cJ1_rotateLeft 74 = .ok (.goto 11, 3) := dk_167 0 11 (dk_at dksJ1_rotateLeft_3 3 rfl rfl)
theorem dJ1_rotateLeft_77 : decode cJ1_rotateLeft 77 = .ok (.aload_n 1, 1) := dk_43 (dk_at dksJ1_rotateLeft_3 6 rfl rfl)
theorem dJ1_rotateLeft_78 : decode cJ1_rotateLeft 78 = .ok (.getfield 124, 3) := dk_180 0 124 (dk_at dksJ1_rotateLeft_3 7 rfl rfl)
theorem dJ1_rotateLeft_81 : decode cJ1_rotateLeft 81 = .ok (.aload_n 2, 1) := dk_44 (dk_at dksJ1_rotateLeft_3 10 rfl rfl)
theorem dJ1_rotateLeft_82 : decode cJ1_rotateLeft 82 = .ok (.putfield 114, 3) := dk_181 0 114 (dk_at dksJ1_rotateLeft_3 11 rfl rfl)
theorem dJ1_rotateLeft_85 : decode cJ1_rotateLeft 85 = .ok (.aload_n 2, 1) := dk_44 (dk_at dksJ1_rotateLeft_3 14 rfl rfl)
theorem dJ1_rotateLeft_86 : decode cJ1_rotateLeft 86 = .ok (.aload_n 1, 1) := dk_43 (dk_at dksJ1_rotateLeft_3 15 rfl rfl)
theorem dJ1_rotateLeft_87 : decode cJ1_rotateLeft 87 = .ok (.putfield 111, 3) := dk_181 0 111 (dk_at dksJ1_rotateLeft_3 16 rfl rfl)
theorem dJ1_rotateLeft_90 : decode cJ1_rotateLeft 90 = .ok (.aload_n 1, 1) := dk_43 (dk_at dksJ1_rotateLeft_3 19 rfl rfl)
theorem dJ1_rotateLeft_91 : decode cJ1_rotateLeft 91 = .ok (.aload_n 2, 1) := dk_44 (dk_at dksJ1_rotateLeft_3 20 rfl rfl)
theorem dJ1_rotateLeft_92 : decode cJ1_rotateLeft 92 = .ok (.putfield 124, 3) := dk_181 0 124 (dk_at dksJ1_rotateLeft_3 21 rfl rfl)
theorem dJ1_rotateLeft_95 : decode cJ1_rotateLeft 95 = .ok (.return_, 1) := dk_177 (dk_at dksJ1_rotateLeft_4 0 rfl rfl)
set_option maxHeartbeats 4000000 in
theorem m_rotL (l : Launch) (hl : l.stackTraces = false) (g : GE) (A : Nat → Prop) (E : List Nat) (tm : Nat) (ka va : Nat → Nat) (lf rt pa : Nat → Option Nat) (co : Nat → Bool) (vl root : Option Nat) (n : Nat) (md : Int32) (h0 : AHT) (ix lo hi : Nat → Nat) (hI : Inv E ix lo hi lf rt pa root) (ht : tm ∉ E) (p r : Nat) (hp : p ∈ E) (hr : rt p = some r) : U_ l g A yJ1_rotateLeft 1 0 0 [.ref tm, .ref p] (tmO E tm ka va lf rt pa co vl root n md h0) (fun v h' => v = none ∧ (tmO E tm ka va (rlf lf pa p r) (rrt lf rt pa p r) (rpa lf pa p r) co vl (if pa p = none then some r else root) n md h0) = h') noX := by
  refine U_.of (own := RJ1) (cc := cJ1_rotateLeft) (L := 3) (ret := (none)) hl rfl (plainFor_of_name (by decide)) ⟨by decide, by decide⟩ q1072 q85 (by decide) (fun e => absurd e (by decide)) (Nat.le_of_ble_eq_true rfl) (fun κ cx => ?_)
  show V g A κ _ _ 0 0 (tmO E tm ka va lf rt pa co vl root n md h0) 0 [(0, .ref tm), (1, .ref p)] []
  have hinj := fun a b => @Inv.inj E ix lo hi lf rt pa root hI a b
  obtain ⟨i0, i1, i2, i3, i4, i5⟩ := hI
  have hrE : r ∈ E := by grind
  have npr : p ≠ r := by grind
  show V g A κ _ _ 0 0 (tmO E tm ka va lf rt pa co vl root n md h0) 0 [(0, .ref tm), (1, .ref p)] []
  refine V.aload_n cx dJ1_rotateLeft_0 rfl 1 rfl ?_
  refine V.ifnull cx dJ1_rotateLeft_1 ?_
  rcases opt_c (lf r) with hq | ⟨q, hq⟩
  · refine V.aload_n cx dJ1_rotateLeft_4 rfl 1 rfl ?_
    refine V.get cx kJ25 (tm_e hp) 3 (by decide) q1028 rfl rfl dJ1_rotateLeft_5 ?_
    refine V.toq (o' := (some r)) (by rw [hr]) ?_
    show V g A κ _ _ 0 0 (tmO E tm ka va lf rt pa co vl root n md h0) 8 [(0, .ref tm), (1, .ref p)] [.ref r]
    refine V.astore_n (lv' := [(2, .ref r), (0, .ref tm), (1, .ref p)]) cx dJ1_rotateLeft_8 rfl (by decide) rfl ?_
    refine V.aload_n cx dJ1_rotateLeft_9 rfl 2 rfl ?_
    refine V.aload_n cx dJ1_rotateLeft_10 rfl 0 rfl ?_
    refine V.get cx kJ25 (tm_e hrE) 2 (by decide) q1027 rfl rfl dJ1_rotateLeft_11 ?_
    refine V.toq (o' := none) (by rw [hq]) ?_
    show V g A κ _ _ 0 0 (tmO E tm ka va lf rt pa co vl root n md h0) 14 [(2, .ref r), (0, .ref tm), (1, .ref p)] [.null, .ref p]
    refine V.put (ty := tyJ25 3) cx kJ25 (tm_e hp) 3 (by decide) rfl (tyJ25_ok 3 (by decide)) rfl rfl (Nat.le_of_ble_eq_true rfl) q1028 rfl dJ1_rotateLeft_14 ?_
    refine V.hto (tm_rt (o := none) hp) ?_
    show V g A κ _ _ 0 0 (tmO E tm ka va lf (va_up rt p none) pa co vl root n md h0) 17 [(2, .ref r), (0, .ref tm), (1, .ref p)] []
    refine V.aload_n cx dJ1_rotateLeft_17 rfl 0 rfl ?_
    refine V.get cx kJ25 (tm_e hrE) 2 (by decide) q1027 rfl rfl dJ1_rotateLeft_18 ?_
    refine V.toq (o' := none) (by rw [hq]) ?_
    show V g A κ _ _ 0 0 (tmO E tm ka va lf (va_up rt p none) pa co vl root n md h0) 21 [(2, .ref r), (0, .ref tm), (1, .ref p)] [.null]
    refine V.ifnullN (tgt := 32) cx dJ1_rotateLeft_21 (by decide) ?_
    refine V.aload_n cx dJ1_rotateLeft_32 rfl 0 rfl ?_
    refine V.aload_n cx dJ1_rotateLeft_33 rfl 2 rfl ?_
    refine V.get cx kJ25 (tm_e hp) 4 (by decide) q1030 rfl rfl dJ1_rotateLeft_34 ?_
    show V g A κ _ _ 0 0 (tmO E tm ka va lf (va_up rt p none) pa co vl root n md h0) 37 [(2, .ref r), (0, .ref tm), (1, .ref p)] [va_rf (pa p), .ref r]
    refine V.put (ty := tyJ25 4) cx kJ25 (tm_e hrE) 4 (by decide) rfl (tyJ25_ok 4 (by decide)) (va_nar_rf _) (va_fit_rf _) (Nat.le_of_ble_eq_true rfl) q1030 rfl dJ1_rotateLeft_37 ?_
    refine V.hto (tm_pa (o := (pa p)) hrE) ?_
    show V g A κ _ _ 0 0 (tmO E tm ka va lf (va_up rt p none) (va_up pa r (pa p)) co vl root n md h0) 40 [(2, .ref r), (0, .ref tm), (1, .ref p)] []
    rcases opt_c (pa p) with hpp | ⟨pp, hpp⟩
    · refine V.aload_n cx dJ1_rotateLeft_40 rfl 2 rfl ?_
      refine V.get cx kJ25 (tm_e hp) 4 (by decide) q1030 rfl rfl dJ1_rotateLeft_41 ?_
      refine V.toq (o' := none) (by rw [va_up_ne _ _ npr, hpp]) ?_
      show V g A κ _ _ 0 0 (tmO E tm ka va lf (va_up rt p none) (va_up pa r (pa p)) co vl root n md h0) 44 [(2, .ref r), (0, .ref tm), (1, .ref p)] [.null]
      refine V.ifnonnullN cx dJ1_rotateLeft_44 ?_
      refine V.aload_n cx dJ1_rotateLeft_47 rfl 1 rfl ?_
      refine V.aload_n cx dJ1_rotateLeft_48 rfl 0 rfl ?_
      refine V.put (ty := tyJ1 3) cx kJ1 (tm_t ht) 3 (by decide) rfl (tyJ1_ok 3 (by decide)) rfl rfl (Nat.le_of_ble_eq_true rfl) q158 rfl dJ1_rotateLeft_49 ?_
      refine V.hto (tm_tm (vl' := vl) (root' := (some r)) (n' := n) (md' := md) ht) ?_
      show V g A κ _ _ 0 0 (tmO E tm ka va lf (va_up rt p none) (va_up pa r (pa p)) co vl (some r) n md h0) 52 [(2, .ref r), (0, .ref tm), (1, .ref p)] []
      refine V.goto (tgt := 85) cx dJ1_rotateLeft_52 (by decide) ?_
      refine V.aload_n cx dJ1_rotateLeft_85 rfl 0 rfl ?_
      refine V.aload_n cx dJ1_rotateLeft_86 rfl 2 rfl ?_
      refine V.put (ty := tyJ25 2) cx kJ25 (tm_e hrE) 2 (by decide) rfl (tyJ25_ok 2 (by decide)) rfl rfl (Nat.le_of_ble_eq_true rfl) q1027 rfl dJ1_rotateLeft_87 ?_
      refine V.hto (tm_lf (o := (some p)) hrE) ?_
      show V g A κ _ _ 0 0 (tmO E tm ka va (va_up lf r (some p)) (va_up rt p none) (va_up pa r (pa p)) co vl (some r) n md h0) 90 [(2, .ref r), (0, .ref tm), (1, .ref p)] []
      refine V.aload_n cx dJ1_rotateLeft_90 rfl 2 rfl ?_
      refine V.aload_n cx dJ1_rotateLeft_91 rfl 0 rfl ?_
      refine V.put (ty := tyJ25 4) cx kJ25 (tm_e hp) 4 (by decide) rfl (tyJ25_ok 4 (by decide)) rfl rfl (Nat.le_of_ble_eq_true rfl) q1030 rfl dJ1_rotateLeft_92 ?_
      refine V.hto (tm_pa (o := (some r)) hp) ?_
      show V g A κ _ _ 0 0 (tmO E tm ka va (va_up lf r (some p)) (va_up rt p none) (va_up (va_up pa r (pa p)) p (some r)) co vl (some r) n md h0) 95 [(2, .ref r), (0, .ref tm), (1, .ref p)] []
      exact V.vreturn cx rfl ⟨rfl, by rw [show (va_up lf r (some p)) = rlf lf pa p r from by funext e; unfold rlf va_up; grind, show (va_up rt p none) = rrt lf rt pa p r from by funext e; unfold rrt va_up; grind, show (va_up (va_up pa r (pa p)) p (some r)) = rpa lf pa p r from by funext e; unfold rpa va_up; grind, hpp, if_pos rfl]⟩ (by decide) (by decide) dJ1_rotateLeft_95
    · have hppE : pp ∈ E := by grind
      have n1 : pp ≠ p := by grind
      have n2 : pp ≠ r := by grind
      refine V.aload_n cx dJ1_rotateLeft_40 rfl 2 rfl ?_
      refine V.get cx kJ25 (tm_e hp) 4 (by decide) q1030 rfl rfl dJ1_rotateLeft_41 ?_
      refine V.toq (o' := (some pp)) (by rw [va_up_ne _ _ npr, hpp]) ?_
      show V g A κ _ _ 0 0 (tmO E tm ka va lf (va_up rt p none) (va_up pa r (pa p)) co vl root n md h0) 44 [(2, .ref r), (0, .ref tm), (1, .ref p)] [.ref pp]
      refine V.ifnonnull (tgt := 55) cx dJ1_rotateLeft_44 (by decide) ?_
      refine V.aload_n cx dJ1_rotateLeft_55 rfl 2 rfl ?_
      refine V.get cx kJ25 (tm_e hp) 4 (by decide) q1030 rfl rfl dJ1_rotateLeft_56 ?_
      refine V.toq (o' := (some pp)) (by rw [va_up_ne _ _ npr, hpp]) ?_
      show V g A κ _ _ 0 0 (tmO E tm ka va lf (va_up rt p none) (va_up pa r (pa p)) co vl root n md h0) 59 [(2, .ref r), (0, .ref tm), (1, .ref p)] [.ref pp]
      refine V.get cx kJ25 (tm_e hppE) 2 (by decide) q1027 rfl rfl dJ1_rotateLeft_59 ?_
      show V g A κ _ _ 0 0 (tmO E tm ka va lf (va_up rt p none) (va_up pa r (pa p)) co vl root n md h0) 62 [(2, .ref r), (0, .ref tm), (1, .ref p)] [va_rf (lf pp)]
      refine V.aload_n cx dJ1_rotateLeft_62 rfl 2 rfl ?_
      refine V.acmp_ne (rx := (lf pp)) (ry := (some p)) (tgt := 77) cx dJ1_rotateLeft_63 (by decide) (fun ca => ?_) (fun ca => ?_)
      · refine V.aload_n cx dJ1_rotateLeft_77 rfl 2 rfl ?_
        refine V.get cx kJ25 (tm_e hp) 4 (by decide) q1030 rfl rfl dJ1_rotateLeft_78 ?_
        refine V.toq (o' := (some pp)) (by rw [va_up_ne _ _ npr, hpp]) ?_
        show V g A κ _ _ 0 0 (tmO E tm ka va lf (va_up rt p none) (va_up pa r (pa p)) co vl root n md h0) 81 [(2, .ref r), (0, .ref tm), (1, .ref p)] [.ref pp]
        refine V.aload_n cx dJ1_rotateLeft_81 rfl 0 rfl ?_
        refine V.put (ty := tyJ25 3) cx kJ25 (tm_e hppE) 3 (by decide) rfl (tyJ25_ok 3 (by decide)) rfl rfl (Nat.le_of_ble_eq_true rfl) q1028 rfl dJ1_rotateLeft_82 ?_
        refine V.hto (tm_rt (o := (some r)) hppE) ?_
        show V g A κ _ _ 0 0 (tmO E tm ka va lf (va_up (va_up rt p none) pp (some r)) (va_up pa r (pa p)) co vl root n md h0) 85 [(2, .ref r), (0, .ref tm), (1, .ref p)] []
        refine V.aload_n cx dJ1_rotateLeft_85 rfl 0 rfl ?_
        refine V.aload_n cx dJ1_rotateLeft_86 rfl 2 rfl ?_
        refine V.put (ty := tyJ25 2) cx kJ25 (tm_e hrE) 2 (by decide) rfl (tyJ25_ok 2 (by decide)) rfl rfl (Nat.le_of_ble_eq_true rfl) q1027 rfl dJ1_rotateLeft_87 ?_
        refine V.hto (tm_lf (o := (some p)) hrE) ?_
        show V g A κ _ _ 0 0 (tmO E tm ka va (va_up lf r (some p)) (va_up (va_up rt p none) pp (some r)) (va_up pa r (pa p)) co vl root n md h0) 90 [(2, .ref r), (0, .ref tm), (1, .ref p)] []
        refine V.aload_n cx dJ1_rotateLeft_90 rfl 2 rfl ?_
        refine V.aload_n cx dJ1_rotateLeft_91 rfl 0 rfl ?_
        refine V.put (ty := tyJ25 4) cx kJ25 (tm_e hp) 4 (by decide) rfl (tyJ25_ok 4 (by decide)) rfl rfl (Nat.le_of_ble_eq_true rfl) q1030 rfl dJ1_rotateLeft_92 ?_
        refine V.hto (tm_pa (o := (some r)) hp) ?_
        show V g A κ _ _ 0 0 (tmO E tm ka va (va_up lf r (some p)) (va_up (va_up rt p none) pp (some r)) (va_up (va_up pa r (pa p)) p (some r)) co vl root n md h0) 95 [(2, .ref r), (0, .ref tm), (1, .ref p)] []
        exact V.vreturn cx rfl ⟨rfl, by rw [show (va_up lf r (some p)) = rlf lf pa p r from by funext e; unfold rlf va_up; grind, show (va_up (va_up rt p none) pp (some r)) = rrt lf rt pa p r from by funext e; unfold rrt va_up; grind, show (va_up (va_up pa r (pa p)) p (some r)) = rpa lf pa p r from by funext e; unfold rpa va_up; grind, hpp, if_neg (by simp)]⟩ (by decide) (by decide) dJ1_rotateLeft_95
      · refine V.aload_n cx dJ1_rotateLeft_66 rfl 2 rfl ?_
        refine V.get cx kJ25 (tm_e hp) 4 (by decide) q1030 rfl rfl dJ1_rotateLeft_67 ?_
        refine V.toq (o' := (some pp)) (by rw [va_up_ne _ _ npr, hpp]) ?_
        show V g A κ _ _ 0 0 (tmO E tm ka va lf (va_up rt p none) (va_up pa r (pa p)) co vl root n md h0) 70 [(2, .ref r), (0, .ref tm), (1, .ref p)] [.ref pp]
        refine V.aload_n cx dJ1_rotateLeft_70 rfl 0 rfl ?_
        refine V.put (ty := tyJ25 2) cx kJ25 (tm_e hppE) 2 (by decide) rfl (tyJ25_ok 2 (by decide)) rfl rfl (Nat.le_of_ble_eq_true rfl) q1027 rfl dJ1_rotateLeft_71 ?_
        refine V.hto (tm_lf (o := (some r)) hppE) ?_
        show V g A κ _ _ 0 0 (tmO E tm ka va (va_up lf pp (some r)) (va_up rt p none) (va_up pa r (pa p)) co vl root n md h0) 74 [(2, .ref r), (0, .ref tm), (1, .ref p)] []
        refine V.goto (tgt := 85) cx dJ1_rotateLeft_74 (by decide) ?_
        refine V.aload_n cx dJ1_rotateLeft_85 rfl 0 rfl ?_
        refine V.aload_n cx dJ1_rotateLeft_86 rfl 2 rfl ?_
        refine V.put (ty := tyJ25 2) cx kJ25 (tm_e hrE) 2 (by decide) rfl (tyJ25_ok 2 (by decide)) rfl rfl (Nat.le_of_ble_eq_true rfl) q1027 rfl dJ1_rotateLeft_87 ?_
        refine V.hto (tm_lf (o := (some p)) hrE) ?_
        show V g A κ _ _ 0 0 (tmO E tm ka va (va_up (va_up lf pp (some r)) r (some p)) (va_up rt p none) (va_up pa r (pa p)) co vl root n md h0) 90 [(2, .ref r), (0, .ref tm), (1, .ref p)] []
        refine V.aload_n cx dJ1_rotateLeft_90 rfl 2 rfl ?_
        refine V.aload_n cx dJ1_rotateLeft_91 rfl 0 rfl ?_
        refine V.put (ty := tyJ25 4) cx kJ25 (tm_e hp) 4 (by decide) rfl (tyJ25_ok 4 (by decide)) rfl rfl (Nat.le_of_ble_eq_true rfl) q1030 rfl dJ1_rotateLeft_92 ?_
        refine V.hto (tm_pa (o := (some r)) hp) ?_
        show V g A κ _ _ 0 0 (tmO E tm ka va (va_up (va_up lf pp (some r)) r (some p)) (va_up rt p none) (va_up (va_up pa r (pa p)) p (some r)) co vl root n md h0) 95 [(2, .ref r), (0, .ref tm), (1, .ref p)] []
        exact V.vreturn cx rfl ⟨rfl, by rw [show (va_up (va_up lf pp (some r)) r (some p)) = rlf lf pa p r from by funext e; unfold rlf va_up; grind, show (va_up rt p none) = rrt lf rt pa p r from by funext e; unfold rrt va_up; grind, show (va_up (va_up pa r (pa p)) p (some r)) = rpa lf pa p r from by funext e; unfold rpa va_up; grind, hpp, if_neg (by simp)]⟩ (by decide) (by decide) dJ1_rotateLeft_95
  · have hqE : q ∈ E := by grind
    have n4 : q ≠ p := by grind
    have n5 : q ≠ r := by grind
    refine V.aload_n cx dJ1_rotateLeft_4 rfl 1 rfl ?_
    refine V.get cx kJ25 (tm_e hp) 3 (by decide) q1028 rfl rfl dJ1_rotateLeft_5 ?_
    refine V.toq (o' := (some r)) (by rw [hr]) ?_
    show V g A κ _ _ 0 0 (tmO E tm ka va lf rt pa co vl root n md h0) 8 [(0, .ref tm), (1, .ref p)] [.ref r]
    refine V.astore_n (lv' := [(2, .ref r), (0, .ref tm), (1, .ref p)]) cx dJ1_rotateLeft_8 rfl (by decide) rfl ?_
    refine V.aload_n cx dJ1_rotateLeft_9 rfl 2 rfl ?_
    refine V.aload_n cx dJ1_rotateLeft_10 rfl 0 rfl ?_
    refine V.get cx kJ25 (tm_e hrE) 2 (by decide) q1027 rfl rfl dJ1_rotateLeft_11 ?_
    refine V.toq (o' := (some q)) (by rw [hq]) ?_
    show V g A κ _ _ 0 0 (tmO E tm ka va lf rt pa co vl root n md h0) 14 [(2, .ref r), (0, .ref tm), (1, .ref p)] [.ref q, .ref p]
    refine V.put (ty := tyJ25 3) cx kJ25 (tm_e hp) 3 (by decide) rfl (tyJ25_ok 3 (by decide)) rfl rfl (Nat.le_of_ble_eq_true rfl) q1028 rfl dJ1_rotateLeft_14 ?_
    refine V.hto (tm_rt (o := (some q)) hp) ?_
    show V g A κ _ _ 0 0 (tmO E tm ka va lf (va_up rt p (some q)) pa co vl root n md h0) 17 [(2, .ref r), (0, .ref tm), (1, .ref p)] []
    refine V.aload_n cx dJ1_rotateLeft_17 rfl 0 rfl ?_
    refine V.get cx kJ25 (tm_e hrE) 2 (by decide) q1027 rfl rfl dJ1_rotateLeft_18 ?_
    refine V.toq (o' := (some q)) (by rw [hq]) ?_
    show V g A κ _ _ 0 0 (tmO E tm ka va lf (va_up rt p (some q)) pa co vl root n md h0) 21 [(2, .ref r), (0, .ref tm), (1, .ref p)] [.ref q]
    refine V.ifnull cx dJ1_rotateLeft_21 ?_
    refine V.aload_n cx dJ1_rotateLeft_24 rfl 0 rfl ?_
    refine V.get cx kJ25 (tm_e hrE) 2 (by decide) q1027 rfl rfl dJ1_rotateLeft_25 ?_
    refine V.toq (o' := (some q)) (by rw [hq]) ?_
    show V g A κ _ _ 0 0 (tmO E tm ka va lf (va_up rt p (some q)) pa co vl root n md h0) 28 [(2, .ref r), (0, .ref tm), (1, .ref p)] [.ref q]
    refine V.aload_n cx dJ1_rotateLeft_28 rfl 2 rfl ?_
    refine V.put (ty := tyJ25 4) cx kJ25 (tm_e hqE) 4 (by decide) rfl (tyJ25_ok 4 (by decide)) rfl rfl (Nat.le_of_ble_eq_true rfl) q1030 rfl dJ1_rotateLeft_29 ?_
    refine V.hto (tm_pa (o := (some p)) hqE) ?_
    show V g A κ _ _ 0 0 (tmO E tm ka va lf (va_up rt p (some q)) (va_up pa q (some p)) co vl root n md h0) 32 [(2, .ref r), (0, .ref tm), (1, .ref p)] []
    refine V.aload_n cx dJ1_rotateLeft_32 rfl 0 rfl ?_
    refine V.aload_n cx dJ1_rotateLeft_33 rfl 2 rfl ?_
    refine V.get cx kJ25 (tm_e hp) 4 (by decide) q1030 rfl rfl dJ1_rotateLeft_34 ?_
    refine V.toq (o' := (pa p)) (by rw [va_up_ne _ _ (Ne.symm n4)]) ?_
    show V g A κ _ _ 0 0 (tmO E tm ka va lf (va_up rt p (some q)) (va_up pa q (some p)) co vl root n md h0) 37 [(2, .ref r), (0, .ref tm), (1, .ref p)] [va_rf (pa p), .ref r]
    refine V.put (ty := tyJ25 4) cx kJ25 (tm_e hrE) 4 (by decide) rfl (tyJ25_ok 4 (by decide)) (va_nar_rf _) (va_fit_rf _) (Nat.le_of_ble_eq_true rfl) q1030 rfl dJ1_rotateLeft_37 ?_
    refine V.hto (tm_pa (o := (pa p)) hrE) ?_
    show V g A κ _ _ 0 0 (tmO E tm ka va lf (va_up rt p (some q)) (va_up (va_up pa q (some p)) r (pa p)) co vl root n md h0) 40 [(2, .ref r), (0, .ref tm), (1, .ref p)] []
    rcases opt_c (pa p) with hpp | ⟨pp, hpp⟩
    · refine V.aload_n cx dJ1_rotateLeft_40 rfl 2 rfl ?_
      refine V.get cx kJ25 (tm_e hp) 4 (by decide) q1030 rfl rfl dJ1_rotateLeft_41 ?_
      refine V.toq (o' := none) (by rw [va_up_ne _ _ npr, va_up_ne _ _ (Ne.symm n4), hpp]) ?_
      show V g A κ _ _ 0 0 (tmO E tm ka va lf (va_up rt p (some q)) (va_up (va_up pa q (some p)) r (pa p)) co vl root n md h0) 44 [(2, .ref r), (0, .ref tm), (1, .ref p)] [.null]
      refine V.ifnonnullN cx dJ1_rotateLeft_44 ?_
      refine V.aload_n cx dJ1_rotateLeft_47 rfl 1 rfl ?_
      refine V.aload_n cx dJ1_rotateLeft_48 rfl 0 rfl ?_
      refine V.put (ty := tyJ1 3) cx kJ1 (tm_t ht) 3 (by decide) rfl (tyJ1_ok 3 (by decide)) rfl rfl (Nat.le_of_ble_eq_true rfl) q158 rfl dJ1_rotateLeft_49 ?_
      refine V.hto (tm_tm (vl' := vl) (root' := (some r)) (n' := n) (md' := md) ht) ?_
      show V g A κ _ _ 0 0 (tmO E tm ka va lf (va_up rt p (some q)) (va_up (va_up pa q (some p)) r (pa p)) co vl (some r) n md h0) 52 [(2, .ref r), (0, .ref tm), (1, .ref p)] []
      refine V.goto (tgt := 85) cx dJ1_rotateLeft_52 (by decide) ?_
      refine V.aload_n cx dJ1_rotateLeft_85 rfl 0 rfl ?_
      refine V.aload_n cx dJ1_rotateLeft_86 rfl 2 rfl ?_
      refine V.put (ty := tyJ25 2) cx kJ25 (tm_e hrE) 2 (by decide) rfl (tyJ25_ok 2 (by decide)) rfl rfl (Nat.le_of_ble_eq_true rfl) q1027 rfl dJ1_rotateLeft_87 ?_
      refine V.hto (tm_lf (o := (some p)) hrE) ?_
      show V g A κ _ _ 0 0 (tmO E tm ka va (va_up lf r (some p)) (va_up rt p (some q)) (va_up (va_up pa q (some p)) r (pa p)) co vl (some r) n md h0) 90 [(2, .ref r), (0, .ref tm), (1, .ref p)] []
      refine V.aload_n cx dJ1_rotateLeft_90 rfl 2 rfl ?_
      refine V.aload_n cx dJ1_rotateLeft_91 rfl 0 rfl ?_
      refine V.put (ty := tyJ25 4) cx kJ25 (tm_e hp) 4 (by decide) rfl (tyJ25_ok 4 (by decide)) rfl rfl (Nat.le_of_ble_eq_true rfl) q1030 rfl dJ1_rotateLeft_92 ?_
      refine V.hto (tm_pa (o := (some r)) hp) ?_
      show V g A κ _ _ 0 0 (tmO E tm ka va (va_up lf r (some p)) (va_up rt p (some q)) (va_up (va_up (va_up pa q (some p)) r (pa p)) p (some r)) co vl (some r) n md h0) 95 [(2, .ref r), (0, .ref tm), (1, .ref p)] []
      exact V.vreturn cx rfl ⟨rfl, by rw [show (va_up lf r (some p)) = rlf lf pa p r from by funext e; unfold rlf va_up; grind, show (va_up rt p (some q)) = rrt lf rt pa p r from by funext e; unfold rrt va_up; grind, show (va_up (va_up (va_up pa q (some p)) r (pa p)) p (some r)) = rpa lf pa p r from by funext e; unfold rpa va_up; grind, hpp, if_pos rfl]⟩ (by decide) (by decide) dJ1_rotateLeft_95
    · have hppE : pp ∈ E := by grind
      have n1 : pp ≠ p := by grind
      have n2 : pp ≠ r := by grind
      have n3 : pp ≠ q := by grind
      refine V.aload_n cx dJ1_rotateLeft_40 rfl 2 rfl ?_
      refine V.get cx kJ25 (tm_e hp) 4 (by decide) q1030 rfl rfl dJ1_rotateLeft_41 ?_
      refine V.toq (o' := (some pp)) (by rw [va_up_ne _ _ npr, va_up_ne _ _ (Ne.symm n4), hpp]) ?_
      show V g A κ _ _ 0 0 (tmO E tm ka va lf (va_up rt p (some q)) (va_up (va_up pa q (some p)) r (pa p)) co vl root n md h0) 44 [(2, .ref r), (0, .ref tm), (1, .ref p)] [.ref pp]
      refine V.ifnonnull (tgt := 55) cx dJ1_rotateLeft_44 (by decide) ?_
      refine V.aload_n cx dJ1_rotateLeft_55 rfl 2 rfl ?_
      refine V.get cx kJ25 (tm_e hp) 4 (by decide) q1030 rfl rfl dJ1_rotateLeft_56 ?_
      refine V.toq (o' := (some pp)) (by rw [va_up_ne _ _ npr, va_up_ne _ _ (Ne.symm n4), hpp]) ?_
      show V g A κ _ _ 0 0 (tmO E tm ka va lf (va_up rt p (some q)) (va_up (va_up pa q (some p)) r (pa p)) co vl root n md h0) 59 [(2, .ref r), (0, .ref tm), (1, .ref p)] [.ref pp]
      refine V.get cx kJ25 (tm_e hppE) 2 (by decide) q1027 rfl rfl dJ1_rotateLeft_59 ?_
      show V g A κ _ _ 0 0 (tmO E tm ka va lf (va_up rt p (some q)) (va_up (va_up pa q (some p)) r (pa p)) co vl root n md h0) 62 [(2, .ref r), (0, .ref tm), (1, .ref p)] [va_rf (lf pp)]
      refine V.aload_n cx dJ1_rotateLeft_62 rfl 2 rfl ?_
      refine V.acmp_ne (rx := (lf pp)) (ry := (some p)) (tgt := 77) cx dJ1_rotateLeft_63 (by decide) (fun ca => ?_) (fun ca => ?_)
      · refine V.aload_n cx dJ1_rotateLeft_77 rfl 2 rfl ?_
        refine V.get cx kJ25 (tm_e hp) 4 (by decide) q1030 rfl rfl dJ1_rotateLeft_78 ?_
        refine V.toq (o' := (some pp)) (by rw [va_up_ne _ _ npr, va_up_ne _ _ (Ne.symm n4), hpp]) ?_
        show V g A κ _ _ 0 0 (tmO E tm ka va lf (va_up rt p (some q)) (va_up (va_up pa q (some p)) r (pa p)) co vl root n md h0) 81 [(2, .ref r), (0, .ref tm), (1, .ref p)] [.ref pp]
        refine V.aload_n cx dJ1_rotateLeft_81 rfl 0 rfl ?_
        refine V.put (ty := tyJ25 3) cx kJ25 (tm_e hppE) 3 (by decide) rfl (tyJ25_ok 3 (by decide)) rfl rfl (Nat.le_of_ble_eq_true rfl) q1028 rfl dJ1_rotateLeft_82 ?_
        refine V.hto (tm_rt (o := (some r)) hppE) ?_
        show V g A κ _ _ 0 0 (tmO E tm ka va lf (va_up (va_up rt p (some q)) pp (some r)) (va_up (va_up pa q (some p)) r (pa p)) co vl root n md h0) 85 [(2, .ref r), (0, .ref tm), (1, .ref p)] []
        refine V.aload_n cx dJ1_rotateLeft_85 rfl 0 rfl ?_
        refine V.aload_n cx dJ1_rotateLeft_86 rfl 2 rfl ?_
        refine V.put (ty := tyJ25 2) cx kJ25 (tm_e hrE) 2 (by decide) rfl (tyJ25_ok 2 (by decide)) rfl rfl (Nat.le_of_ble_eq_true rfl) q1027 rfl dJ1_rotateLeft_87 ?_
        refine V.hto (tm_lf (o := (some p)) hrE) ?_
        show V g A κ _ _ 0 0 (tmO E tm ka va (va_up lf r (some p)) (va_up (va_up rt p (some q)) pp (some r)) (va_up (va_up pa q (some p)) r (pa p)) co vl root n md h0) 90 [(2, .ref r), (0, .ref tm), (1, .ref p)] []
        refine V.aload_n cx dJ1_rotateLeft_90 rfl 2 rfl ?_
        refine V.aload_n cx dJ1_rotateLeft_91 rfl 0 rfl ?_
        refine V.put (ty := tyJ25 4) cx kJ25 (tm_e hp) 4 (by decide) rfl (tyJ25_ok 4 (by decide)) rfl rfl (Nat.le_of_ble_eq_true rfl) q1030 rfl dJ1_rotateLeft_92 ?_
        refine V.hto (tm_pa (o := (some r)) hp) ?_
        show V g A κ _ _ 0 0 (tmO E tm ka va (va_up lf r (some p)) (va_up (va_up rt p (some q)) pp (some r)) (va_up (va_up (va_up pa q (some p)) r (pa p)) p (some r)) co vl root n md h0) 95 [(2, .ref r), (0, .ref tm), (1, .ref p)] []
        exact V.vreturn cx rfl ⟨rfl, by rw [show (va_up lf r (some p)) = rlf lf pa p r from by funext e; unfold rlf va_up; grind, show (va_up (va_up rt p (some q)) pp (some r)) = rrt lf rt pa p r from by funext e; unfold rrt va_up; grind, show (va_up (va_up (va_up pa q (some p)) r (pa p)) p (some r)) = rpa lf pa p r from by funext e; unfold rpa va_up; grind, hpp, if_neg (by simp)]⟩ (by decide) (by decide) dJ1_rotateLeft_95
      · refine V.aload_n cx dJ1_rotateLeft_66 rfl 2 rfl ?_
        refine V.get cx kJ25 (tm_e hp) 4 (by decide) q1030 rfl rfl dJ1_rotateLeft_67 ?_
        refine V.toq (o' := (some pp)) (by rw [va_up_ne _ _ npr, va_up_ne _ _ (Ne.symm n4), hpp]) ?_
        show V g A κ _ _ 0 0 (tmO E tm ka va lf (va_up rt p (some q)) (va_up (va_up pa q (some p)) r (pa p)) co vl root n md h0) 70 [(2, .ref r), (0, .ref tm), (1, .ref p)] [.ref pp]
        refine V.aload_n cx dJ1_rotateLeft_70 rfl 0 rfl ?_
        refine V.put (ty := tyJ25 2) cx kJ25 (tm_e hppE) 2 (by decide) rfl (tyJ25_ok 2 (by decide)) rfl rfl (Nat.le_of_ble_eq_true rfl) q1027 rfl dJ1_rotateLeft_71 ?_
        refine V.hto (tm_lf (o := (some r)) hppE) ?_
        show V g A κ _ _ 0 0 (tmO E tm ka va (va_up lf pp (some r)) (va_up rt p (some q)) (va_up (va_up pa q (some p)) r (pa p)) co vl root n md h0) 74 [(2, .ref r), (0, .ref tm), (1, .ref p)] []
        refine V.goto (tgt := 85) cx dJ1_rotateLeft_74 (by decide) ?_
        refine V.aload_n cx dJ1_rotateLeft_85 rfl 0 rfl ?_
        refine V.aload_n cx dJ1_rotateLeft_86 rfl 2 rfl ?_
        refine V.put (ty := tyJ25 2) cx kJ25 (tm_e hrE) 2 (by decide) rfl (tyJ25_ok 2 (by decide)) rfl rfl (Nat.le_of_ble_eq_true rfl) q1027 rfl dJ1_rotateLeft_87 ?_
        refine V.hto (tm_lf (o := (some p)) hrE) ?_
        show V g A κ _ _ 0 0 (tmO E tm ka va (va_up (va_up lf pp (some r)) r (some p)) (va_up rt p (some q)) (va_up (va_up pa q (some p)) r (pa p)) co vl root n md h0) 90 [(2, .ref r), (0, .ref tm), (1, .ref p)] []
        refine V.aload_n cx dJ1_rotateLeft_90 rfl 2 rfl ?_
        refine V.aload_n cx dJ1_rotateLeft_91 rfl 0 rfl ?_
        refine V.put (ty := tyJ25 4) cx kJ25 (tm_e hp) 4 (by decide) rfl (tyJ25_ok 4 (by decide)) rfl rfl (Nat.le_of_ble_eq_true rfl) q1030 rfl dJ1_rotateLeft_92 ?_
        refine V.hto (tm_pa (o := (some r)) hp) ?_
        show V g A κ _ _ 0 0 (tmO E tm ka va (va_up (va_up lf pp (some r)) r (some p)) (va_up rt p (some q)) (va_up (va_up (va_up pa q (some p)) r (pa p)) p (some r)) co vl root n md h0) 95 [(2, .ref r), (0, .ref tm), (1, .ref p)] []
        exact V.vreturn cx rfl ⟨rfl, by rw [show (va_up (va_up lf pp (some r)) r (some p)) = rlf lf pa p r from by funext e; unfold rlf va_up; grind, show (va_up rt p (some q)) = rrt lf rt pa p r from by funext e; unfold rrt va_up; grind, show (va_up (va_up (va_up pa q (some p)) r (pa p)) p (some r)) = rpa lf pa p r from by funext e; unfold rpa va_up; grind, hpp, if_neg (by simp)]⟩ (by decide) (by decide) dJ1_rotateLeft_95
abbrev cJ1_rotateRight : ByteArray := prog_68_method_82_code
def yJ1_rotateRight : MethodName := ⟨RJ1, "rotateRight", "(Ljava/util/TreeMap$Entry;)V"⟩
def dkwJ1_rotateRight_4 : List UInt8 := [177]
abbrev dktJ1_rotateRight_4 : List UInt8 := dkwJ1_rotateRight_4 ++ []
def dkwJ1_rotateRight_3 : List UInt8 := [181, 0, 114, 167, 0, 11, 43, 180, 0, 124, 44, 181, 0, 111, 44, 43, 181, 0, 114, 43, 44, 181, 0, 124]
abbrev dktJ1_rotateRight_3 : List UInt8 := dkwJ1_rotateRight_3 ++ dktJ1_rotateRight_4
def dkwJ1_rotateRight_2 : List UInt8 := [44, 181, 0, 101, 167, 0, 33, 43, 180, 0, 124, 180, 0, 114, 43, 166, 0, 14, 43, 180, 0, 124, 44]
abbrev dktJ1_rotateRight_2 : List UInt8 := dkwJ1_rotateRight_2 ++ dktJ1_rotateRight_3
def dkwJ1_rotateRight_1 : List UInt8 := [44, 180, 0, 114, 43, 181, 0, 124, 44, 43, 180, 0, 124, 181, 0, 124, 43, 180, 0, 124, 199, 0, 11, 42]
abbrev dktJ1_rotateRight_1 : List UInt8 := dkwJ1_rotateRight_1 ++ dktJ1_rotateRight_2
def dkwJ1_rotateRight_0 : List UInt8 := [43, 198, 0, 94, 43, 180, 0, 111, 77, 43, 44, 180, 0, 114, 181, 0, 111, 44, 180, 0, 114, 198, 0, 11]
abbrev dktJ1_rotateRight_0 : List UInt8 := dkwJ1_rotateRight_0 ++ dktJ1_rotateRight_1
theorem dksJ1_rotateRight_0 : cJ1_rotateRight.data.toList.drop 0 = dktJ1_rotateRight_0 := by decide +kernel
theorem dksJ1_rotateRight_1 : cJ1_rotateRight.data.toList.drop 24 = dktJ1_rotateRight_1 := dk_seg dksJ1_rotateRight_0 24 rfl rfl
theorem dksJ1_rotateRight_2 : cJ1_rotateRight.data.toList.drop 48 = dktJ1_rotateRight_2 := dk_seg dksJ1_rotateRight_1 24 rfl rfl
theorem dksJ1_rotateRight_3 : cJ1_rotateRight.data.toList.drop 71 = dktJ1_rotateRight_3 := dk_seg dksJ1_rotateRight_2 23 rfl rfl
theorem dksJ1_rotateRight_4 : cJ1_rotateRight.data.toList.drop 95 = dktJ1_rotateRight_4 := dk_seg dksJ1_rotateRight_3 24 rfl rfl
theorem dJ1_rotateRight_0 : decode cJ1_rotateRight 0 = .ok (.aload_n 1, 1) := dk_43 (dk_at dksJ1_rotateRight_0 0 rfl rfl)
theorem dJ1_rotateRight_1 : decode cJ1_rotateRight 1 = .ok (.ifnull 94, 3) := dk_198 0 94 (dk_at dksJ1_rotateRight_0 1 rfl rfl)
theorem dJ1_rotateRight_4 : decode cJ1_rotateRight 4 = .ok (.aload_n 1, 1) := dk_43 (dk_at dksJ1_rotateRight_0 4 rfl rfl)
theorem dJ1_rotateRight_5 : decode cJ1_rotateRight 5 = .ok (.getfield 111, 3) := dk_180 0 111 (dk_at dksJ1_rotateRight_0 5 rfl rfl)
theorem dJ1_rotateRight_8 : decode cJ1_rotateRight 8 = .ok (.astore_n 2, 1) := dk_77 (dk_at dksJ1_rotateRight_0 8 rfl rfl)
theorem dJ1_rotateRight_9 : decode cJ1_rotateRight 9 = .ok (.aload_n 1, 1) := dk_43 (dk_at dksJ1_rotateRight_0 9 rfl rfl)
theorem dJ1_rotateRight_10 : decode cJ1_rotateRight 10 = .ok (.aload_n 2, 1) := dk_44 (dk_at dksJ1_rotateRight_0 10 rfl rfl)
theorem dJ1_rotateRight_11 : decode cJ1_rotateRight 11 = .ok (.getfield 114, 3) := dk_180 0 114 (dk_at dksJ1_rotateRight_0 11 rfl rfl)
theorem dJ1_rotateRight_14 : decode cJ1_rotateRight 14 = .ok (.putfield 111, 3) := dk_181 0 111 (dk_at dksJ1_rotateRight_0 14 rfl rfl)
theorem dJ1_rotateRight_17 : decode cJ1_rotateRight 17 = .ok (.aload_n 2, 1) := dk_44 (dk_at dksJ1_rotateRight_0 17 rfl rfl)
theorem dJ1_rotateRight_18 : decode cJ1_rotateRight 18 = .ok (.getfield 114, 3) := dk_180 0 114 (dk_at dksJ1_rotateRight_0 18 rfl rfl)
theorem dJ1_rotateRight_21 : decode cJ1_rotateRight 21 = .ok (.ifnull 11, 3) := dk_198 0 11 (dk_at dksJ1_rotateRight_0 21 rfl rfl)
theorem dJ1_rotateRight_24 : decode cJ1_rotateRight 24 = .ok (.aload_n 2, 1) := dk_44 (dk_at dksJ1_rotateRight_1 0 rfl rfl)
theorem dJ1_rotateRight_25 : decode cJ1_rotateRight 25 = .ok (.getfield 114, 3) := dk_180 0 114 (dk_at dksJ1_rotateRight_1 1 rfl rfl)
theorem dJ1_rotateRight_28 : decode cJ1_rotateRight 28 = .ok (.aload_n 1, 1) := dk_43 (dk_at dksJ1_rotateRight_1 4 rfl rfl)
theorem dJ1_rotateRight_29 : decode cJ1_rotateRight 29 = .ok (.putfield 124, 3) := dk_181 0 124 (dk_at dksJ1_rotateRight_1 5 rfl rfl)
theorem dJ1_rotateRight_32 : decode cJ1_rotateRight 32 = .ok (.aload_n 2, 1) := dk_44 (dk_at dksJ1_rotateRight_1 8 rfl rfl)
theorem dJ1_rotateRight_33 : decode cJ1_rotateRight 33 = .ok (.aload_n 1, 1) := dk_43 (dk_at dksJ1_rotateRight_1 9 rfl rfl)
theorem dJ1_rotateRight_34 : decode cJ1_rotateRight 34 = .ok (.getfield 124, 3) := dk_180 0 124 (dk_at dksJ1_rotateRight_1 10 rfl rfl)
theorem dJ1_rotateRight_37 : decode cJ1_rotateRight 37 = .ok (.putfield 124, 3) := dk_181 0 124 (dk_at dksJ1_rotateRight_1 13 rfl rfl)
theorem dJ1_rotateRight_40 : decode cJ1_rotateRight 40 = .ok (.aload_n 1, 1) := dk_43 (dk_at dksJ1_rotateRight_1 16 rfl rfl)
theorem dJ1_rotateRight_41 : decode cJ1_rotateRight 41 = .ok (.getfield 124, 3) := dk_180 0 124 (dk_at dksJ1_rotateRight_1 17 rfl rfl)
theorem dJ1_rotateRight_44 : decode cJ1_rotateRight 44 = .ok (.ifnonnull 11, 3) := dk_199 0 11 (dk_at dksJ1_rotateRight_1 20 rfl rfl)
theorem dJ1_rotateRight_47 : decode cJ1_rotateRight 47 = .ok (.aload_n 0, 1) := dk_42 (dk_at dksJ1_rotateRight_1 23 rfl rfl)
theorem dJ1_rotateRight_48 : decode cJ1_rotateRight 48 = .ok (.aload_n 2, 1) := dk_44 (dk_at dksJ1_rotateRight_2 0 rfl rfl)
theorem dJ1_rotateRight_49 : decode cJ1_rotateRight 49 = .ok (.putfield 101, 3) := dk_181 0 101 (dk_at dksJ1_rotateRight_2 1 rfl rfl)
theorem dJ1_rotateRight_52 : decode cJ1_rotateRight 52 = .ok (.goto 33, 3) := dk_167 0 33 (dk_at dksJ1_rotateRight_2 4 rfl rfl)
theorem dJ1_rotateRight_55 : decode cJ1_rotateRight 55 = .ok (.aload_n 1, 1) := dk_43 (dk_at dksJ1_rotateRight_2 7 rfl rfl)
theorem dJ1_rotateRight_56 : decode cJ1_rotateRight 56 = .ok (.getfield 124, 3) := dk_180 0 124 (dk_at dksJ1_rotateRight_2 8 rfl rfl)
theorem dJ1_rotateRight_59 : decode cJ1_rotateRight 59 = .ok (.getfield 114, 3) := dk_180 0 114 (dk_at dksJ1_rotateRight_2 11 rfl rfl)
theorem dJ1_rotateRight_62 : decode cJ1_rotateRight 62 = .ok (.aload_n 1, 1) := dk_43 (dk_at dksJ1_rotateRight_2 14 rfl rfl)
theorem dJ1_rotateRight_63 : decode cJ1_rotateRight 63 = .ok (.if_acmp .ne 14, 3) := dk_166 0 14 (dk_at dksJ1_rotateRight_2 15 rfl rfl)
theorem dJ1_rotateRight_66 : decode cJ1_rotateRight 66 = .ok (.aload_n 1, 1) := dk_43 (dk_at dksJ1_rotateRight_2 18 rfl rfl)
theorem dJ1_rotateRight_67 : decode cJ1_rotateRight 67 = .ok (.getfield 124, 3) := dk_180 0 124 (dk_at dksJ1_rotateRight_2 19 rfl rfl)
theorem dJ1_rotateRight_70 : decode cJ1_rotateRight 70 = .ok (.aload_n 2, 1) := dk_44 (dk_at dksJ1_rotateRight_2 22 rfl rfl)
theorem dJ1_rotateRight_71 : decode cJ1_rotateRight 71 = .ok (.putfield 114, 3) := dk_181 0 114 (dk_at dksJ1_rotateRight_3 0 rfl rfl)
theorem dJ1_rotateRight_74 : decode cJ1_rotateRight 74 = .ok (.goto 11, 3) := dk_167 0 11 (dk_at dksJ1_rotateRight_3 3 rfl rfl)
theorem dJ1_rotateRight_77 : decode cJ1_rotateRight 77 = .ok (.aload_n 1, 1) := dk_43 (dk_at dksJ1_rotateRight_3 6 rfl rfl)
theorem dJ1_rotateRight_78 : decode cJ1_rotateRight 78 = .ok (.getfield 124, 3) := dk_180 0 124 (dk_at dksJ1_rotateRight_3 7 rfl rfl)
theorem dJ1_rotateRight_81 : decode cJ1_rotateRight 81 = .ok (.aload_n 2, 1) := dk_44 (dk_at dksJ1_rotateRight_3 10 rfl rfl)
theorem dJ1_rotateRight_82 : decode cJ1_rotateRight 82 = .ok (.putfield 111, 3) := dk_181 0 111 (dk_at dksJ1_rotateRight_3 11 rfl rfl)
theorem dJ1_rotateRight_85 : decode cJ1_rotateRight 85 = .ok (.aload_n 2, 1) := dk_44 (dk_at dksJ1_rotateRight_3 14 rfl rfl)
theorem dJ1_rotateRight_86 : decode cJ1_rotateRight 86 = .ok (.aload_n 1, 1) := dk_43 (dk_at dksJ1_rotateRight_3 15 rfl rfl)
theorem dJ1_rotateRight_87 : decode cJ1_rotateRight 87 = .ok (.putfield 114, 3) := dk_181 0 114 (dk_at dksJ1_rotateRight_3 16 rfl rfl)
theorem dJ1_rotateRight_90 : decode cJ1_rotateRight 90 = .ok (.aload_n 1, 1) := dk_43 (dk_at dksJ1_rotateRight_3 19 rfl rfl)
theorem dJ1_rotateRight_91 : decode cJ1_rotateRight 91 = .ok (.aload_n 2, 1) := dk_44 (dk_at dksJ1_rotateRight_3 20 rfl rfl)
theorem dJ1_rotateRight_92 : decode cJ1_rotateRight 92 = .ok (.putfield 124, 3) := dk_181 0 124 (dk_at dksJ1_rotateRight_3 21 rfl rfl)
theorem dJ1_rotateRight_95 : decode cJ1_rotateRight 95 = .ok (.return_, 1) := dk_177 (dk_at dksJ1_rotateRight_4 0 rfl rfl)
set_option maxHeartbeats 4000000 in
theorem m_rotR (l : Launch) (hl : l.stackTraces = false) (g : GE) (A : Nat → Prop) (E : List Nat) (tm : Nat) (ka va : Nat → Nat) (lf rt pa : Nat → Option Nat) (co : Nat → Bool) (vl root : Option Nat) (n : Nat) (md : Int32) (h0 : AHT) (ix lo hi : Nat → Nat) (hI : Inv E ix lo hi lf rt pa root) (ht : tm ∉ E) (p r : Nat) (hp : p ∈ E) (hr : lf p = some r) : U_ l g A yJ1_rotateRight 1 0 0 [.ref tm, .ref p] (tmO E tm ka va lf rt pa co vl root n md h0) (fun v h' => v = none ∧ (tmO E tm ka va (rrt rt lf pa p r) (rlf rt pa p r) (rpa rt pa p r) co vl (if pa p = none then some r else root) n md h0) = h') noX := by
  refine U_.of (own := RJ1) (cc := cJ1_rotateRight) (L := 3) (ret := (none)) hl rfl (plainFor_of_name (by decide)) ⟨by decide, by decide⟩ q1076 q85 (by decide) (fun e => absurd e (by decide)) (Nat.le_of_ble_eq_true rfl) (fun κ cx => ?_)
  show V g A κ _ _ 0 0 (tmO E tm ka va lf rt pa co vl root n md h0) 0 [(0, .ref tm), (1, .ref p)] []
  have hinj := fun a b => @Inv.inj E ix lo hi lf rt pa root hI a b
  obtain ⟨i0, i1, i2, i3, i4, i5⟩ := hI
  have hrE : r ∈ E := by grind
  have npr : p ≠ r := by grind
  show V g A κ _ _ 0 0 (tmO E tm ka va lf rt pa co vl root n md h0) 0 [(0, .ref tm), (1, .ref p)] []
  refine V.aload_n cx dJ1_rotateRight_0 rfl 1 rfl ?_
  refine V.ifnull cx dJ1_rotateRight_1 ?_
  rcases opt_c (rt r) with hq | ⟨q, hq⟩
  · refine V.aload_n cx dJ1_rotateRight_4 rfl 1 rfl ?_
    refine V.get cx kJ25 (tm_e hp) 2 (by decide) q1027 rfl rfl dJ1_rotateRight_5 ?_
    refine V.toq (o' := (some r)) (by rw [hr]) ?_
    show V g A κ _ _ 0 0 (tmO E tm ka va lf rt pa co vl root n md h0) 8 [(0, .ref tm), (1, .ref p)] [.ref r]
    refine V.astore_n (lv' := [(2, .ref r), (0, .ref tm), (1, .ref p)]) cx dJ1_rotateRight_8 rfl (by decide) rfl ?_
    refine V.aload_n cx dJ1_rotateRight_9 rfl 2 rfl ?_
    refine V.aload_n cx dJ1_rotateRight_10 rfl 0 rfl ?_
    refine V.get cx kJ25 (tm_e hrE) 3 (by decide) q1028 rfl rfl dJ1_rotateRight_11 ?_
    refine V.toq (o' := none) (by rw [hq]) ?_
    show V g A κ _ _ 0 0 (tmO E tm ka va lf rt pa co vl root n md h0) 14 [(2, .ref r), (0, .ref tm), (1, .ref p)] [.null, .ref p]
    refine V.put (ty := tyJ25 2) cx kJ25 (tm_e hp) 2 (by decide) rfl (tyJ25_ok 2 (by decide)) rfl rfl (Nat.le_of_ble_eq_true rfl) q1027 rfl dJ1_rotateRight_14 ?_
    refine V.hto (tm_lf (o := none) hp) ?_
    show V g A κ _ _ 0 0 (tmO E tm ka va (va_up lf p none) rt pa co vl root n md h0) 17 [(2, .ref r), (0, .ref tm), (1, .ref p)] []
    refine V.aload_n cx dJ1_rotateRight_17 rfl 0 rfl ?_
    refine V.get cx kJ25 (tm_e hrE) 3 (by decide) q1028 rfl rfl dJ1_rotateRight_18 ?_
    refine V.toq (o' := none) (by rw [hq]) ?_
    show V g A κ _ _ 0 0 (tmO E tm ka va (va_up lf p none) rt pa co vl root n md h0) 21 [(2, .ref r), (0, .ref tm), (1, .ref p)] [.null]
    refine V.ifnullN (tgt := 32) cx dJ1_rotateRight_21 (by decide) ?_
    refine V.aload_n cx dJ1_rotateRight_32 rfl 0 rfl ?_
    refine V.aload_n cx dJ1_rotateRight_33 rfl 2 rfl ?_
    refine V.get cx kJ25 (tm_e hp) 4 (by decide) q1030 rfl rfl dJ1_rotateRight_34 ?_
    show V g A κ _ _ 0 0 (tmO E tm ka va (va_up lf p none) rt pa co vl root n md h0) 37 [(2, .ref r), (0, .ref tm), (1, .ref p)] [va_rf (pa p), .ref r]
    refine V.put (ty := tyJ25 4) cx kJ25 (tm_e hrE) 4 (by decide) rfl (tyJ25_ok 4 (by decide)) (va_nar_rf _) (va_fit_rf _) (Nat.le_of_ble_eq_true rfl) q1030 rfl dJ1_rotateRight_37 ?_
    refine V.hto (tm_pa (o := (pa p)) hrE) ?_
    show V g A κ _ _ 0 0 (tmO E tm ka va (va_up lf p none) rt (va_up pa r (pa p)) co vl root n md h0) 40 [(2, .ref r), (0, .ref tm), (1, .ref p)] []
    rcases opt_c (pa p) with hpp | ⟨pp, hpp⟩
    · refine V.aload_n cx dJ1_rotateRight_40 rfl 2 rfl ?_
      refine V.get cx kJ25 (tm_e hp) 4 (by decide) q1030 rfl rfl dJ1_rotateRight_41 ?_
      refine V.toq (o' := none) (by rw [va_up_ne _ _ npr, hpp]) ?_
      show V g A κ _ _ 0 0 (tmO E tm ka va (va_up lf p none) rt (va_up pa r (pa p)) co vl root n md h0) 44 [(2, .ref r), (0, .ref tm), (1, .ref p)] [.null]
      refine V.ifnonnullN cx dJ1_rotateRight_44 ?_
      refine V.aload_n cx dJ1_rotateRight_47 rfl 1 rfl ?_
      refine V.aload_n cx dJ1_rotateRight_48 rfl 0 rfl ?_
      refine V.put (ty := tyJ1 3) cx kJ1 (tm_t ht) 3 (by decide) rfl (tyJ1_ok 3 (by decide)) rfl rfl (Nat.le_of_ble_eq_true rfl) q158 rfl dJ1_rotateRight_49 ?_
      refine V.hto (tm_tm (vl' := vl) (root' := (some r)) (n' := n) (md' := md) ht) ?_
      show V g A κ _ _ 0 0 (tmO E tm ka va (va_up lf p none) rt (va_up pa r (pa p)) co vl (some r) n md h0) 52 [(2, .ref r), (0, .ref tm), (1, .ref p)] []
      refine V.goto (tgt := 85) cx dJ1_rotateRight_52 (by decide) ?_
      refine V.aload_n cx dJ1_rotateRight_85 rfl 0 rfl ?_
      refine V.aload_n cx dJ1_rotateRight_86 rfl 2 rfl ?_
      refine V.put (ty := tyJ25 3) cx kJ25 (tm_e hrE) 3 (by decide) rfl (tyJ25_ok 3 (by decide)) rfl rfl (Nat.le_of_ble_eq_true rfl) q1028 rfl dJ1_rotateRight_87 ?_
      refine V.hto (tm_rt (o := (some p)) hrE) ?_
      show V g A κ _ _ 0 0 (tmO E tm ka va (va_up lf p none) (va_up rt r (some p)) (va_up pa r (pa p)) co vl (some r) n md h0) 90 [(2, .ref r), (0, .ref tm), (1, .ref p)] []
      refine V.aload_n cx dJ1_rotateRight_90 rfl 2 rfl ?_
      refine V.aload_n cx dJ1_rotateRight_91 rfl 0 rfl ?_
      refine V.put (ty := tyJ25 4) cx kJ25 (tm_e hp) 4 (by decide) rfl (tyJ25_ok 4 (by decide)) rfl rfl (Nat.le_of_ble_eq_true rfl) q1030 rfl dJ1_rotateRight_92 ?_
      refine V.hto (tm_pa (o := (some r)) hp) ?_
      show V g A κ _ _ 0 0 (tmO E tm ka va (va_up lf p none) (va_up rt r (some p)) (va_up (va_up pa r (pa p)) p (some r)) co vl (some r) n md h0) 95 [(2, .ref r), (0, .ref tm), (1, .ref p)] []
      exact V.vreturn cx rfl ⟨rfl, by rw [show (va_up rt r (some p)) = rlf rt pa p r from by funext e; unfold rlf va_up; grind, show (va_up lf p none) = rrt rt lf pa p r from by funext e; unfold rrt va_up; grind, show (va_up (va_up pa r (pa p)) p (some r)) = rpa rt pa p r from by funext e; unfold rpa va_up; grind, hpp, if_pos rfl]⟩ (by decide) (by decide) dJ1_rotateRight_95
    · have hppE : pp ∈ E := by grind
      have n1 : pp ≠ p := by grind
      have n2 : pp ≠ r := by grind
      refine V.aload_n cx dJ1_rotateRight_40 rfl 2 rfl ?_
      refine V.get cx kJ25 (tm_e hp) 4 (by decide) q1030 rfl rfl dJ1_rotateRight_41 ?_
      refine V.toq (o' := (some pp)) (by rw [va_up_ne _ _ npr, hpp]) ?_
      show V g A κ _ _ 0 0 (tmO E tm ka va (va_up lf p none) rt (va_up pa r (pa p)) co vl root n md h0) 44 [(2, .ref r), (0, .ref tm), (1, .ref p)] [.ref pp]
      refine V.ifnonnull (tgt := 55) cx dJ1_rotateRight_44 (by decide) ?_
      refine V.aload_n cx dJ1_rotateRight_55 rfl 2 rfl ?_
      refine V.get cx kJ25 (tm_e hp) 4 (by decide) q1030 rfl rfl dJ1_rotateRight_56 ?_
      refine V.toq (o' := (some pp)) (by rw [va_up_ne _ _ npr, hpp]) ?_
      show V g A κ _ _ 0 0 (tmO E tm ka va (va_up lf p none) rt (va_up pa r (pa p)) co vl root n md h0) 59 [(2, .ref r), (0, .ref tm), (1, .ref p)] [.ref pp]
      refine V.get cx kJ25 (tm_e hppE) 3 (by decide) q1028 rfl rfl dJ1_rotateRight_59 ?_
      show V g A κ _ _ 0 0 (tmO E tm ka va (va_up lf p none) rt (va_up pa r (pa p)) co vl root n md h0) 62 [(2, .ref r), (0, .ref tm), (1, .ref p)] [va_rf (rt pp)]
      refine V.aload_n cx dJ1_rotateRight_62 rfl 2 rfl ?_
      refine V.acmp_ne (rx := (rt pp)) (ry := (some p)) (tgt := 77) cx dJ1_rotateRight_63 (by decide) (fun ca => ?_) (fun ca => ?_)
      · refine V.aload_n cx dJ1_rotateRight_77 rfl 2 rfl ?_
        refine V.get cx kJ25 (tm_e hp) 4 (by decide) q1030 rfl rfl dJ1_rotateRight_78 ?_
        refine V.toq (o' := (some pp)) (by rw [va_up_ne _ _ npr, hpp]) ?_
        show V g A κ _ _ 0 0 (tmO E tm ka va (va_up lf p none) rt (va_up pa r (pa p)) co vl root n md h0) 81 [(2, .ref r), (0, .ref tm), (1, .ref p)] [.ref pp]
        refine V.aload_n cx dJ1_rotateRight_81 rfl 0 rfl ?_
        refine V.put (ty := tyJ25 2) cx kJ25 (tm_e hppE) 2 (by decide) rfl (tyJ25_ok 2 (by decide)) rfl rfl (Nat.le_of_ble_eq_true rfl) q1027 rfl dJ1_rotateRight_82 ?_
        refine V.hto (tm_lf (o := (some r)) hppE) ?_
        show V g A κ _ _ 0 0 (tmO E tm ka va (va_up (va_up lf p none) pp (some r)) rt (va_up pa r (pa p)) co vl root n md h0) 85 [(2, .ref r), (0, .ref tm), (1, .ref p)] []
        refine V.aload_n cx dJ1_rotateRight_85 rfl 0 rfl ?_
        refine V.aload_n cx dJ1_rotateRight_86 rfl 2 rfl ?_
        refine V.put (ty := tyJ25 3) cx kJ25 (tm_e hrE) 3 (by decide) rfl (tyJ25_ok 3 (by decide)) rfl rfl (Nat.le_of_ble_eq_true rfl) q1028 rfl dJ1_rotateRight_87 ?_
        refine V.hto (tm_rt (o := (some p)) hrE) ?_
        show V g A κ _ _ 0 0 (tmO E tm ka va (va_up (va_up lf p none) pp (some r)) (va_up rt r (some p)) (va_up pa r (pa p)) co vl root n md h0) 90 [(2, .ref r), (0, .ref tm), (1, .ref p)] []
        refine V.aload_n cx dJ1_rotateRight_90 rfl 2 rfl ?_
        refine V.aload_n cx dJ1_rotateRight_91 rfl 0 rfl ?_
        refine V.put (ty := tyJ25 4) cx kJ25 (tm_e hp) 4 (by decide) rfl (tyJ25_ok 4 (by decide)) rfl rfl (Nat.le_of_ble_eq_true rfl) q1030 rfl dJ1_rotateRight_92 ?_
        refine V.hto (tm_pa (o := (some r)) hp) ?_
        show V g A κ _ _ 0 0 (tmO E tm ka va (va_up (va_up lf p none) pp (some r)) (va_up rt r (some p)) (va_up (va_up pa r (pa p)) p (some r)) co vl root n md h0) 95 [(2, .ref r), (0, .ref tm), (1, .ref p)] []
        exact V.vreturn cx rfl ⟨rfl, by rw [show (va_up rt r (some p)) = rlf rt pa p r from by funext e; unfold rlf va_up; grind, show (va_up (va_up lf p none) pp (some r)) = rrt rt lf pa p r from by funext e; unfold rrt va_up; grind, show (va_up (va_up pa r (pa p)) p (some r)) = rpa rt pa p r from by funext e; unfold rpa va_up; grind, hpp, if_neg (by simp)]⟩ (by decide) (by decide) dJ1_rotateRight_95
      · refine V.aload_n cx dJ1_rotateRight_66 rfl 2 rfl ?_
        refine V.get cx kJ25 (tm_e hp) 4 (by decide) q1030 rfl rfl dJ1_rotateRight_67 ?_
        refine V.toq (o' := (some pp)) (by rw [va_up_ne _ _ npr, hpp]) ?_
        show V g A κ _ _ 0 0 (tmO E tm ka va (va_up lf p none) rt (va_up pa r (pa p)) co vl root n md h0) 70 [(2, .ref r), (0, .ref tm), (1, .ref p)] [.ref pp]
        refine V.aload_n cx dJ1_rotateRight_70 rfl 0 rfl ?_
        refine V.put (ty := tyJ25 3) cx kJ25 (tm_e hppE) 3 (by decide) rfl (tyJ25_ok 3 (by decide)) rfl rfl (Nat.le_of_ble_eq_true rfl) q1028 rfl dJ1_rotateRight_71 ?_
        refine V.hto (tm_rt (o := (some r)) hppE) ?_
        show V g A κ _ _ 0 0 (tmO E tm ka va (va_up lf p none) (va_up rt pp (some r)) (va_up pa r (pa p)) co vl root n md h0) 74 [(2, .ref r), (0, .ref tm), (1, .ref p)] []
        refine V.goto (tgt := 85) cx dJ1_rotateRight_74 (by decide) ?_
        refine V.aload_n cx dJ1_rotateRight_85 rfl 0 rfl ?_
        refine V.aload_n cx dJ1_rotateRight_86 rfl 2 rfl ?_
        refine V.put (ty := tyJ25 3) cx kJ25 (tm_e hrE) 3 (by decide) rfl (tyJ25_ok 3 (by decide)) rfl rfl (Nat.le_of_ble_eq_true rfl) q1028 rfl dJ1_rotateRight_87 ?_
        refine V.hto (tm_rt (o := (some p)) hrE) ?_
        show V g A κ _ _ 0 0 (tmO E tm ka va (va_up lf p none) (va_up (va_up rt pp (some r)) r (some p)) (va_up pa r (pa p)) co vl root n md h0) 90 [(2, .ref r), (0, .ref tm), (1, .ref p)] []
        refine V.aload_n cx dJ1_rotateRight_90 rfl 2 rfl ?_
        refine V.aload_n cx dJ1_rotateRight_91 rfl 0 rfl ?_
        refine V.put (ty := tyJ25 4) cx kJ25 (tm_e hp) 4 (by decide) rfl (tyJ25_ok 4 (by decide)) rfl rfl (Nat.le_of_ble_eq_true rfl) q1030 rfl dJ1_rotateRight_92 ?_
        refine V.hto (tm_pa (o := (some r)) hp) ?_
        show V g A κ _ _ 0 0 (tmO E tm ka va (va_up lf p none) (va_up (va_up rt pp (some r)) r (some p)) (va_up (va_up pa r (pa p)) p (some r)) co vl root n md h0) 95 [(2, .ref r), (0, .ref tm), (1, .ref p)] []
        exact V.vreturn cx rfl ⟨rfl, by rw [show (va_up (va_up rt pp (some r)) r (some p)) = rlf rt pa p r from by funext e; unfold rlf va_up; grind, show (va_up lf p none) = rrt rt lf pa p r from by funext e; unfold rrt va_up; grind, show (va_up (va_up pa r (pa p)) p (some r)) = rpa rt pa p r from by funext e; unfold rpa va_up; grind, hpp, if_neg (by simp)]⟩ (by decide) (by decide) dJ1_rotateRight_95
  · have hqE : q ∈ E := by grind
    have n4 : q ≠ p := by grind
    have n5 : q ≠ r := by grind
    refine V.aload_n cx dJ1_rotateRight_4 rfl 1 rfl ?_
    refine V.get cx kJ25 (tm_e hp) 2 (by decide) q1027 rfl rfl dJ1_rotateRight_5 ?_
    refine V.toq (o' := (some r)) (by rw [hr]) ?_
    show V g A κ _ _ 0 0 (tmO E tm ka va lf rt pa co vl root n md h0) 8 [(0, .ref tm), (1, .ref p)] [.ref r]
    refine V.astore_n (lv' := [(2, .ref r), (0, .ref tm), (1, .ref p)]) cx dJ1_rotateRight_8 rfl (by decide) rfl ?_
    refine V.aload_n cx dJ1_rotateRight_9 rfl 2 rfl ?_
    refine V.aload_n cx dJ1_rotateRight_10 rfl 0 rfl ?_
    refine V.get cx kJ25 (tm_e hrE) 3 (by decide) q1028 rfl rfl dJ1_rotateRight_11 ?_
    refine V.toq (o' := (some q)) (by rw [hq]) ?_
    show V g A κ _ _ 0 0 (tmO E tm ka va lf rt pa co vl root n md h0) 14 [(2, .ref r), (0, .ref tm), (1, .ref p)] [.ref q, .ref p]
    refine V.put (ty := tyJ25 2) cx kJ25 (tm_e hp) 2 (by decide) rfl (tyJ25_ok 2 (by decide)) rfl rfl (Nat.le_of_ble_eq_true rfl) q1027 rfl dJ1_rotateRight_14 ?_
    refine V.hto (tm_lf (o := (some q)) hp) ?_
    show V g A κ _ _ 0 0 (tmO E tm ka va (va_up lf p (some q)) rt pa co vl root n md h0) 17 [(2, .ref r), (0, .ref tm), (1, .ref p)] []
    refine V.aload_n cx dJ1_rotateRight_17 rfl 0 rfl ?_
    refine V.get cx kJ25 (tm_e hrE) 3 (by decide) q1028 rfl rfl dJ1_rotateRight_18 ?_
    refine V.toq (o' := (some q)) (by rw [hq]) ?_
    show V g A κ _ _ 0 0 (tmO E tm ka va (va_up lf p (some q)) rt pa co vl root n md h0) 21 [(2, .ref r), (0, .ref tm), (1, .ref p)] [.ref q]
    refine V.ifnull cx dJ1_rotateRight_21 ?_
    refine V.aload_n cx dJ1_rotateRight_24 rfl 0 rfl ?_
    refine V.get cx kJ25 (tm_e hrE) 3 (by decide) q1028 rfl rfl dJ1_rotateRight_25 ?_
    refine V.toq (o' := (some q)) (by rw [hq]) ?_
    show V g A κ _ _ 0 0 (tmO E tm ka va (va_up lf p (some q)) rt pa co vl root n md h0) 28 [(2, .ref r), (0, .ref tm), (1, .ref p)] [.ref q]
    refine V.aload_n cx dJ1_rotateRight_28 rfl 2 rfl ?_
    refine V.put (ty := tyJ25 4) cx kJ25 (tm_e hqE) 4 (by decide) rfl (tyJ25_ok 4 (by decide)) rfl rfl (Nat.le_of_ble_eq_true rfl) q1030 rfl dJ1_rotateRight_29 ?_
    refine V.hto (tm_pa (o := (some p)) hqE) ?_
    show V g A κ _ _ 0 0 (tmO E tm ka va (va_up lf p (some q)) rt (va_up pa q (some p)) co vl root n md h0) 32 [(2, .ref r), (0, .ref tm), (1, .ref p)] []
    refine V.aload_n cx dJ1_rotateRight_32 rfl 0 rfl ?_
    refine V.aload_n cx dJ1_rotateRight_33 rfl 2 rfl ?_
    refine V.get cx kJ25 (tm_e hp) 4 (by decide) q1030 rfl rfl dJ1_rotateRight_34 ?_
    refine V.toq (o' := (pa p)) (by rw [va_up_ne _ _ (Ne.symm n4)]) ?_
    show V g A κ _ _ 0 0 (tmO E tm ka va (va_up lf p (some q)) rt (va_up pa q (some p)) co vl root n md h0) 37 [(2, .ref r), (0, .ref tm), (1, .ref p)] [va_rf (pa p), .ref r]
    refine V.put (ty := tyJ25 4) cx kJ25 (tm_e hrE) 4 (by decide) rfl (tyJ25_ok 4 (by decide)) (va_nar_rf _) (va_fit_rf _) (Nat.le_of_ble_eq_true rfl) q1030 rfl dJ1_rotateRight_37 ?_
    refine V.hto (tm_pa (o := (pa p)) hrE) ?_
    show V g A κ _ _ 0 0 (tmO E tm ka va (va_up lf p (some q)) rt (va_up (va_up pa q (some p)) r (pa p)) co vl root n md h0) 40 [(2, .ref r), (0, .ref tm), (1, .ref p)] []
    rcases opt_c (pa p) with hpp | ⟨pp, hpp⟩
    · refine V.aload_n cx dJ1_rotateRight_40 rfl 2 rfl ?_
      refine V.get cx kJ25 (tm_e hp) 4 (by decide) q1030 rfl rfl dJ1_rotateRight_41 ?_
      refine V.toq (o' := none) (by rw [va_up_ne _ _ npr, va_up_ne _ _ (Ne.symm n4), hpp]) ?_
      show V g A κ _ _ 0 0 (tmO E tm ka va (va_up lf p (some q)) rt (va_up (va_up pa q (some p)) r (pa p)) co vl root n md h0) 44 [(2, .ref r), (0, .ref tm), (1, .ref p)] [.null]
      refine V.ifnonnullN cx dJ1_rotateRight_44 ?_
      refine V.aload_n cx dJ1_rotateRight_47 rfl 1 rfl ?_
      refine V.aload_n cx dJ1_rotateRight_48 rfl 0 rfl ?_
      refine V.put (ty := tyJ1 3) cx kJ1 (tm_t ht) 3 (by decide) rfl (tyJ1_ok 3 (by decide)) rfl rfl (Nat.le_of_ble_eq_true rfl) q158 rfl dJ1_rotateRight_49 ?_
      refine V.hto (tm_tm (vl' := vl) (root' := (some r)) (n' := n) (md' := md) ht) ?_
      show V g A κ _ _ 0 0 (tmO E tm ka va (va_up lf p (some q)) rt (va_up (va_up pa q (some p)) r (pa p)) co vl (some r) n md h0) 52 [(2, .ref r), (0, .ref tm), (1, .ref p)] []
      refine V.goto (tgt := 85) cx dJ1_rotateRight_52 (by decide) ?_
      refine V.aload_n cx dJ1_rotateRight_85 rfl 0 rfl ?_
      refine V.aload_n cx dJ1_rotateRight_86 rfl 2 rfl ?_
      refine V.put (ty := tyJ25 3) cx kJ25 (tm_e hrE) 3 (by decide) rfl (tyJ25_ok 3 (by decide)) rfl rfl (Nat.le_of_ble_eq_true rfl) q1028 rfl dJ1_rotateRight_87 ?_
      refine V.hto (tm_rt (o := (some p)) hrE) ?_
      show V g A κ _ _ 0 0 (tmO E tm ka va (va_up lf p (some q)) (va_up rt r (some p)) (va_up (va_up pa q (some p)) r (pa p)) co vl (some r) n md h0) 90 [(2, .ref r), (0, .ref tm), (1, .ref p)] []
      refine V.aload_n cx dJ1_rotateRight_90 rfl 2 rfl ?_
      refine V.aload_n cx dJ1_rotateRight_91 rfl 0 rfl ?_
      refine V.put (ty := tyJ25 4) cx kJ25 (tm_e hp) 4 (by decide) rfl (tyJ25_ok 4 (by decide)) rfl rfl (Nat.le_of_ble_eq_true rfl) q1030 rfl dJ1_rotateRight_92 ?_
      refine V.hto (tm_pa (o := (some r)) hp) ?_
      show V g A κ _ _ 0 0 (tmO E tm ka va (va_up lf p (some q)) (va_up rt r (some p)) (va_up (va_up (va_up pa q (some p)) r (pa p)) p (some r)) co vl (some r) n md h0) 95 [(2, .ref r), (0, .ref tm), (1, .ref p)] []
      exact V.vreturn cx rfl ⟨rfl, by rw [show (va_up rt r (some p)) = rlf rt pa p r from by funext e; unfold rlf va_up; grind, show (va_up lf p (some q)) = rrt rt lf pa p r from by funext e; unfold rrt va_up; grind, show (va_up (va_up (va_up pa q (some p)) r (pa p)) p (some r)) = rpa rt pa p r from by funext e; unfold rpa va_up; grind, hpp, if_pos rfl]⟩ (by decide) (by decide) dJ1_rotateRight_95
    · have hppE : pp ∈ E := by grind
      have n1 : pp ≠ p := by grind
      have n2 : pp ≠ r := by grind
      have n3 : pp ≠ q := by grind
      refine V.aload_n cx dJ1_rotateRight_40 rfl 2 rfl ?_
      refine V.get cx kJ25 (tm_e hp) 4 (by decide) q1030 rfl rfl dJ1_rotateRight_41 ?_
      refine V.toq (o' := (some pp)) (by rw [va_up_ne _ _ npr, va_up_ne _ _ (Ne.symm n4), hpp]) ?_
      show V g A κ _ _ 0 0 (tmO E tm ka va (va_up lf p (some q)) rt (va_up (va_up pa q (some p)) r (pa p)) co vl root n md h0) 44 [(2, .ref r), (0, .ref tm), (1, .ref p)] [.ref pp]
      refine V.ifnonnull (tgt := 55) cx dJ1_rotateRight_44 (by decide) ?_
      refine V.aload_n cx dJ1_rotateRight_55 rfl 2 rfl ?_
      refine V.get cx kJ25 (tm_e hp) 4 (by decide) q1030 rfl rfl dJ1_rotateRight_56 ?_
      refine V.toq (o' := (some pp)) (by rw [va_up_ne _ _ npr, va_up_ne _ _ (Ne.symm n4), hpp]) ?_
      show V g A κ _ _ 0 0 (tmO E tm ka va (va_up lf p (some q)) rt (va_up (va_up pa q (some p)) r (pa p)) co vl root n md h0) 59 [(2, .ref r), (0, .ref tm), (1, .ref p)] [.ref pp]
      refine V.get cx kJ25 (tm_e hppE) 3 (by decide) q1028 rfl rfl dJ1_rotateRight_59 ?_
      show V g A κ _ _ 0 0 (tmO E tm ka va (va_up lf p (some q)) rt (va_up (va_up pa q (some p)) r (pa p)) co vl root n md h0) 62 [(2, .ref r), (0, .ref tm), (1, .ref p)] [va_rf (rt pp)]
      refine V.aload_n cx dJ1_rotateRight_62 rfl 2 rfl ?_
      refine V.acmp_ne (rx := (rt pp)) (ry := (some p)) (tgt := 77) cx dJ1_rotateRight_63 (by decide) (fun ca => ?_) (fun ca => ?_)
      · refine V.aload_n cx dJ1_rotateRight_77 rfl 2 rfl ?_
        refine V.get cx kJ25 (tm_e hp) 4 (by decide) q1030 rfl rfl dJ1_rotateRight_78 ?_
        refine V.toq (o' := (some pp)) (by rw [va_up_ne _ _ npr, va_up_ne _ _ (Ne.symm n4), hpp]) ?_
        show V g A κ _ _ 0 0 (tmO E tm ka va (va_up lf p (some q)) rt (va_up (va_up pa q (some p)) r (pa p)) co vl root n md h0) 81 [(2, .ref r), (0, .ref tm), (1, .ref p)] [.ref pp]
        refine V.aload_n cx dJ1_rotateRight_81 rfl 0 rfl ?_
        refine V.put (ty := tyJ25 2) cx kJ25 (tm_e hppE) 2 (by decide) rfl (tyJ25_ok 2 (by decide)) rfl rfl (Nat.le_of_ble_eq_true rfl) q1027 rfl dJ1_rotateRight_82 ?_
        refine V.hto (tm_lf (o := (some r)) hppE) ?_
        show V g A κ _ _ 0 0 (tmO E tm ka va (va_up (va_up lf p (some q)) pp (some r)) rt (va_up (va_up pa q (some p)) r (pa p)) co vl root n md h0) 85 [(2, .ref r), (0, .ref tm), (1, .ref p)] []
        refine V.aload_n cx dJ1_rotateRight_85 rfl 0 rfl ?_
        refine V.aload_n cx dJ1_rotateRight_86 rfl 2 rfl ?_
        refine V.put (ty := tyJ25 3) cx kJ25 (tm_e hrE) 3 (by decide) rfl (tyJ25_ok 3 (by decide)) rfl rfl (Nat.le_of_ble_eq_true rfl) q1028 rfl dJ1_rotateRight_87 ?_
        refine V.hto (tm_rt (o := (some p)) hrE) ?_
        show V g A κ _ _ 0 0 (tmO E tm ka va (va_up (va_up lf p (some q)) pp (some r)) (va_up rt r (some p)) (va_up (va_up pa q (some p)) r (pa p)) co vl root n md h0) 90 [(2, .ref r), (0, .ref tm), (1, .ref p)] []
        refine V.aload_n cx dJ1_rotateRight_90 rfl 2 rfl ?_
        refine V.aload_n cx dJ1_rotateRight_91 rfl 0 rfl ?_
        refine V.put (ty := tyJ25 4) cx kJ25 (tm_e hp) 4 (by decide) rfl (tyJ25_ok 4 (by decide)) rfl rfl (Nat.le_of_ble_eq_true rfl) q1030 rfl dJ1_rotateRight_92 ?_
        refine V.hto (tm_pa (o := (some r)) hp) ?_
        show V g A κ _ _ 0 0 (tmO E tm ka va (va_up (va_up lf p (some q)) pp (some r)) (va_up rt r (some p)) (va_up (va_up (va_up pa q (some p)) r (pa p)) p (some r)) co vl root n md h0) 95 [(2, .ref r), (0, .ref tm), (1, .ref p)] []
        exact V.vreturn cx rfl ⟨rfl, by rw [show (va_up rt r (some p)) = rlf rt pa p r from by funext e; unfold rlf va_up; grind, show (va_up (va_up lf p (some q)) pp (some r)) = rrt rt lf pa p r from by funext e; unfold rrt va_up; grind, show (va_up (va_up (va_up pa q (some p)) r (pa p)) p (some r)) = rpa rt pa p r from by funext e; unfold rpa va_up; grind, hpp, if_neg (by simp)]⟩ (by decide) (by decide) dJ1_rotateRight_95
      · refine V.aload_n cx dJ1_rotateRight_66 rfl 2 rfl ?_
        refine V.get cx kJ25 (tm_e hp) 4 (by decide) q1030 rfl rfl dJ1_rotateRight_67 ?_
        refine V.toq (o' := (some pp)) (by rw [va_up_ne _ _ npr, va_up_ne _ _ (Ne.symm n4), hpp]) ?_
        show V g A κ _ _ 0 0 (tmO E tm ka va (va_up lf p (some q)) rt (va_up (va_up pa q (some p)) r (pa p)) co vl root n md h0) 70 [(2, .ref r), (0, .ref tm), (1, .ref p)] [.ref pp]
        refine V.aload_n cx dJ1_rotateRight_70 rfl 0 rfl ?_
        refine V.put (ty := tyJ25 3) cx kJ25 (tm_e hppE) 3 (by decide) rfl (tyJ25_ok 3 (by decide)) rfl rfl (Nat.le_of_ble_eq_true rfl) q1028 rfl dJ1_rotateRight_71 ?_
        refine V.hto (tm_rt (o := (some r)) hppE) ?_
        show V g A κ _ _ 0 0 (tmO E tm ka va (va_up lf p (some q)) (va_up rt pp (some r)) (va_up (va_up pa q (some p)) r (pa p)) co vl root n md h0) 74 [(2, .ref r), (0, .ref tm), (1, .ref p)] []
        refine V.goto (tgt := 85) cx dJ1_rotateRight_74 (by decide) ?_
        refine V.aload_n cx dJ1_rotateRight_85 rfl 0 rfl ?_
        refine V.aload_n cx dJ1_rotateRight_86 rfl 2 rfl ?_
        refine V.put (ty := tyJ25 3) cx kJ25 (tm_e hrE) 3 (by decide) rfl (tyJ25_ok 3 (by decide)) rfl rfl (Nat.le_of_ble_eq_true rfl) q1028 rfl dJ1_rotateRight_87 ?_
        refine V.hto (tm_rt (o := (some p)) hrE) ?_
        show V g A κ _ _ 0 0 (tmO E tm ka va (va_up lf p (some q)) (va_up (va_up rt pp (some r)) r (some p)) (va_up (va_up pa q (some p)) r (pa p)) co vl root n md h0) 90 [(2, .ref r), (0, .ref tm), (1, .ref p)] []
        refine V.aload_n cx dJ1_rotateRight_90 rfl 2 rfl ?_
        refine V.aload_n cx dJ1_rotateRight_91 rfl 0 rfl ?_
        refine V.put (ty := tyJ25 4) cx kJ25 (tm_e hp) 4 (by decide) rfl (tyJ25_ok 4 (by decide)) rfl rfl (Nat.le_of_ble_eq_true rfl) q1030 rfl dJ1_rotateRight_92 ?_
        refine V.hto (tm_pa (o := (some r)) hp) ?_
        show V g A κ _ _ 0 0 (tmO E tm ka va (va_up lf p (some q)) (va_up (va_up rt pp (some r)) r (some p)) (va_up (va_up (va_up pa q (some p)) r (pa p)) p (some r)) co vl root n md h0) 95 [(2, .ref r), (0, .ref tm), (1, .ref p)] []
        exact V.vreturn cx rfl ⟨rfl, by rw [show (va_up (va_up rt pp (some r)) r (some p)) = rlf rt pa p r from by funext e; unfold rlf va_up; grind, show (va_up lf p (some q)) = rrt rt lf pa p r from by funext e; unfold rrt va_up; grind, show (va_up (va_up (va_up pa q (some p)) r (pa p)) p (some r)) = rpa rt pa p r from by funext e; unfold rpa va_up; grind, hpp, if_neg (by simp)]⟩ (by decide) (by decide) dJ1_rotateRight_95
