/-! JDK: TreeMap, values and their iterator -/
set_option maxRecDepth 100000
theorem tmO_up {E : List Nat} {tm : Nat} {ka va : Nat → Nat} {lf rt pa : Nat → Option Nat} {co : Nat → Bool} {vl root : Option Nat} {n : Nat} {md : Int32} {h0 : AHT} {q : Nat} {c : va_E} (h1 : q ∉ E) (h2 : q ≠ tm) : up (tmO E tm ka va lf rt pa co vl root n md h0) q c = tmO E tm ka va lf rt pa co vl root n md (up h0 q c) := by
  funext x; unfold up tmO; by_cases z : x = q
  · subst z; simp [h1, h2]
  · simp [z]
theorem tm_first (l : Launch) (hl : l.stackTraces = false) (g : GE) (A : Nat → Prop) (h : AHT) (tm : Nat) (E F : List Nat) (ks : List Int32) (vs : List Nat) (hT : TM g h tm E F ks vs) :
    U_ l g A yJ1_getFirstEntry 1 0 0 [.ref tm] h (fun v h' => v = some (va_rf E[0]?) ∧ h = h') noX := by
  obtain ⟨ix, lo, hi, ka, va, lf, rt, pa, co, vl, root, md, kk, t1, t2, t3, t4, t5, -⟩ := hT
  have w := m_first l hl g A E tm ka va lf rt pa co vl root E.length md h ix lo hi t1 t3
  rw [t5] at w
  exact w
theorem tm_succ (l : Launch) (hl : l.stackTraces = false) (g : GE) (A : Nat → Prop) (h : AHT) (tm : Nat) (E F : List Nat) (ks : List Int32) (vs : List Nat) (hT : TM g h tm E F ks vs) (i x : Nat) (hx : E[i]? = some x) :
    U_ l g A yJ1_successor 1 0 0 [.ref x] h (fun v h' => v = some (va_rf E[i + 1]?) ∧ h = h') noX := by
  obtain ⟨ix, lo, hi, ka, va, lf, rt, pa, co, vl, root, md, kk, t1, t2, t3, t4, t5, -⟩ := hT
  have hm := List.mem_of_getElem? hx
  have w := m_succ l hl g A E tm ka va lf rt pa co vl root E.length md h ix lo hi t1 x hm
  rw [t5, nd_ix t2 (t1.1 x hm) hx] at w
  exact w.mono (fun v h' z => ⟨z.1, z.2.2⟩) (fun _ _ _ z => z)
/-- an iterator of the values, at the place i -/
def TIt (g : GE) (h : AHT) (it tm : Nat) (E : List Nat) (i : Nat) : Prop := ∃ (lr vl root : Option Nat) (md : Int32) (n : Nat), h it = some (ob 17 [va_rf E[i]?, va_rf lr, .int md, .ref tm]) ∧ h tm = some (ob 10 [.null, va_rf vl, .null, va_rf root, .int (nI n), .int md, .null, .null, .null])
theorem TIt.off {g : GE} {h h' : AHT} {it tm : Nat} {E : List Nat} {i : Nat} {S : List Nat} (a : TIt g h it tm E i) (o : Off S h h') (h1 : it ∉ S) (h2 : tm ∉ S) : TIt g h' it tm E i := by
  obtain ⟨lr, vl, root, md, n, e1, e2⟩ := a
  exact ⟨lr, vl, root, md, n, o _ _ h1 e1, o _ _ h2 e2⟩
/-- the values' view has been made -/
theorem TM.view {g : GE} {h : AHT} {tm vw : Nat} {E F : List Nat} {ks : List Int32} {vs : List Nat} {root : Option Nat} {md : Int32} (hT : TM g h tm E F ks vs) (hc : h tm = some (ob 10 [.null, .null, .null, va_rf root, .int (nI E.length), .int md, .null, .null, .null])) (hv : h vw = none) :
    TM g (up (up h vw (ob 14 [.ref tm])) tm (ob 10 [.null, .ref vw, .null, va_rf root, .int (nI E.length), .int md, .null, .null, .null])) tm E (vw :: F) ks vs := by
  obtain ⟨ix, lo, hi, ka, va, lf, rt, pa, co, vl, root', md', kk, t1, t2, t3, t4, t5, t6, t7, t8, t9, t10, t11, t12, t13⟩ := hT
  have hc2 := (congrFun t5 tm).symm.trans (tm_t t3)
  rw [hc] at hc2
  have hr : va_rf root = va_rf root' ∧ (Value.int md) = .int md' := by
    unfold ob at hc2
    injection hc2 with hc2
    injection hc2 with hc2
    injection hc2 with _ hc2
    simp only [List.cons.injEq] at hc2
    exact ⟨hc2.2.2.2.1, hc2.2.2.2.2.2.1⟩
  rw [hr.1, hr.2]
  have nvt : vw ≠ tm := fun z => by rw [z, hc] at hv; cases hv
  have nvE : ∀ e, e ∈ E → e ≠ vw := fun e he => ne_of ((congrFun t5 e).symm.trans (tm_e he)) hv
  refine ⟨ix, lo, hi, ka, va, lf, rt, pa, co, some vw, root', md', kk, t1, t2, t3, t4, ?_, fun e he => (t6 e he).imp (fun z => ⟨?_, List.mem_cons_of_mem _ z.2⟩) id, t7, t8, t9, fun v hv2 => ?_, List.mem_cons_of_mem _ t11, fun e he => List.mem_cons_of_mem _ (t12 e he), fun a ha => ?_⟩
  · funext x
    by_cases z1 : x ∈ E
    · rw [tm_e z1, up_n (fun z : x = tm => t3 (by rw [← z]; exact z1)), up_n (nvE x z1)]
      exact ((congrFun t5 x).symm.trans (tm_e z1)).symm
    · by_cases z2 : x = tm
      · subst z2; rw [tm_t t3]; exact up_s.symm
      · rw [tmO_o z1 z2]
  · have z1 := tmO_cls t5 t3 z.1 (by decide) (by decide)
    rw [up_n z1.2, up_n (ne_of z.1 hv)]; exact z.1
  · have := Option.some.inj hv2
    subst this
    exact ⟨by rw [up_n nvt]; exact up_s, List.mem_cons_self⟩
  · by_cases z1 : a = tm
    · subst z1; exact ⟨_, up_s⟩
    · by_cases z2 : a = vw
      · subst z2; exact ⟨_, by rw [up_n z1]; exact up_s⟩
      · obtain ⟨c, hc⟩ := t13 a ((List.mem_cons.mp ha).resolve_left z2)
        exact ⟨c, by rw [up_n z1, up_n z2]; exact hc⟩

set_option maxHeartbeats 4000000 in
theorem m_acolInit (l : Launch) (hl : l.stackTraces = false) (g : GE) (A : Nat → Prop) (h : AHT) (a : Nat) : U_ l g A yJ2_init 2 0 0 [.ref a] h (fun v h' => v = none ∧ h = h') noX := by
  refine U_.of (own := RJ2) (cc := cJ2_init) (L := 1) (ret := (none)) hl rfl (plainFor_of_name (by decide)) ⟨by decide, by decide⟩ q204 q86 (by decide) (fun _ => rfl) (Nat.le_of_ble_eq_true rfl) (fun κ cx => ?_)
  show V g A κ _ _ 0 0 h 0 [(0, .ref a)] []
  refine V.aload_n cx dJ2_init_0 rfl 0 rfl ?_
  refine V.objInit cx q205 q140 q141 (by decide) (Nat.le_of_ble_eq_true rfl) dJ2_init_1 ?_
  exact V.vreturn cx rfl ⟨rfl, rfl⟩ (by decide) (by decide) dJ2_init_4
abbrev cJ8_init : ByteArray := prog_72_method_1_code
def yJ8_init : MethodName := ⟨RJ8, "<init>", "(Ljava/util/TreeMap;)V"⟩
def dkwJ8_init_0 : List UInt8 := [42, 43, 181, 0, 1, 42, 183, 0, 7, 177]
abbrev dktJ8_init_0 : List UInt8 := dkwJ8_init_0 ++ []
theorem dksJ8_init_0 : cJ8_init.data.toList.drop 0 = dktJ8_init_0 := by decide +kernel
theorem dJ8_init_0 : decode cJ8_init 0 = .ok (.aload_n 0, 1) := dk_42 (dk_at dksJ8_init_0 0 rfl rfl)
theorem dJ8_init_1 : decode cJ8_init 1 = .ok (.aload_n 1, 1) := dk_43 (dk_at dksJ8_init_0 1 rfl rfl)
theorem dJ8_init_2 : decode cJ8_init 2 = .ok (.putfield 1, 3) := dk_181 0 1 (dk_at dksJ8_init_0 2 rfl rfl)
theorem dJ8_init_5 : decode cJ8_init 5 = .ok (.aload_n 0, 1) := dk_42 (dk_at dksJ8_init_0 5 rfl rfl)
theorem dJ8_init_6 : decode cJ8_init 6 = .ok (.invokespecial 7, 3) := dk_183 0 7 (dk_at dksJ8_init_0 6 rfl rfl)
theorem dJ8_init_9 : decode cJ8_init 9 = .ok (.return_, 1) := dk_177 (dk_at dksJ8_init_0 9 rfl rfl)
set_option maxHeartbeats 4000000 in
theorem m_valsInit (l : Launch) (hl : l.stackTraces = false) (g : GE) (A : Nat → Prop) (h : AHT) (a tm : Nat) (ha : h a = some (ob 14 [.null])) : U_ l g A yJ8_init 3 0 0 [.ref a, .ref tm] h (fun v h' => v = none ∧ up h a (ob 14 [.ref tm]) = h') noX := by
  refine U_.of (own := RJ8) (cc := cJ8_init) (L := 2) (ret := (none)) hl rfl (plainFor_of_name (by decide)) ⟨by decide, by decide⟩ q325 q93 (by decide) (fun _ => rfl) (Nat.le_of_ble_eq_true rfl) (fun κ cx => ?_)
  show V g A κ _ _ 0 0 h 0 [(0, .ref a), (1, .ref tm)] []
  refine V.aload_n cx dJ8_init_0 rfl 0 rfl ?_
  refine V.aload_n cx dJ8_init_1 rfl 1 rfl ?_
  refine V.putF (ty := tyJ8 0) cx kJ8 ha 0 (by decide) rfl rfl rfl (tyJ8_ok 0 (by decide)) rfl rfl (Nat.le_of_ble_eq_true rfl) q327 rfl dJ8_init_2 ?_
  show V g A κ _ _ 0 0 (up h a (ob 14 [.ref tm])) 5 [(0, .ref a), (1, .ref tm)] []
  refine V.aload_n cx dJ8_init_5 rfl 0 rfl ?_
  refine V.callI (As := []) (rest := []) cx (m_acolInit l hl g A (up h a (ob 14 [.ref tm])) a) q326 q203 rfl (na := 0) rfl (by decide +kernel) (Nat.le_of_ble_eq_true rfl) (by decide) (by decide) (by decide) rfl dJ8_init_6 (fun _ _ _ hx => hx.elim) (fun v1 h2 hp => ?_)
  obtain ⟨rfl, rfl⟩ := hp
  show V g A κ _ _ 0 0 (up h a (ob 14 [.ref tm])) 9 [(0, .ref a), (1, .ref tm)] []
  exact V.vreturn cx rfl ⟨rfl, rfl⟩ (by decide) (by decide) dJ8_init_9
abbrev cJ1_values : ByteArray := prog_68_method_52_code
def yJ1_values : MethodName := ⟨RJ1, "values", "()Ljava/util/Collection;"⟩
def dkwJ1_values_1 : List UInt8 := [176]
abbrev dktJ1_values_1 : List UInt8 := dkwJ1_values_1 ++ []
def dkwJ1_values_0 : List UInt8 := [42, 180, 0, 233, 76, 43, 199, 0, 17, 187, 0, 237, 89, 42, 183, 0, 239, 76, 42, 43, 181, 0, 233, 43]
abbrev dktJ1_values_0 : List UInt8 := dkwJ1_values_0 ++ dktJ1_values_1
theorem dksJ1_values_0 : cJ1_values.data.toList.drop 0 = dktJ1_values_0 := by decide +kernel
theorem dksJ1_values_1 : cJ1_values.data.toList.drop 24 = dktJ1_values_1 := dk_seg dksJ1_values_0 24 rfl rfl
theorem dJ1_values_0 : decode cJ1_values 0 = .ok (.aload_n 0, 1) := dk_42 (dk_at dksJ1_values_0 0 rfl rfl)
theorem dJ1_values_1 : decode cJ1_values 1 = .ok (.getfield 233, 3) := dk_180 0 233 (dk_at dksJ1_values_0 1 rfl rfl)
theorem dJ1_values_4 : decode cJ1_values 4 = .ok (.astore_n 1, 1) := dk_76 (dk_at dksJ1_values_0 4 rfl rfl)
theorem dJ1_values_5 : decode cJ1_values 5 = .ok (.aload_n 1, 1) := dk_43 (dk_at dksJ1_values_0 5 rfl rfl)
theorem dJ1_values_6 : decode cJ1_values 6 = .ok (.ifnonnull 17, 3) := dk_199 0 17 (dk_at dksJ1_values_0 6 rfl rfl)
theorem dJ1_values_9 : decode cJ1_values 9 = .ok (.new 237, 3) := dk_187 0 237 (dk_at dksJ1_values_0 9 rfl rfl)
theorem dJ1_values_12 : decode cJ1_values 12 = .ok (.dup, 1) := dk_89 (dk_at dksJ1_values_0 12 rfl rfl)
theorem dJ1_values_13 : decode cJ1_values 13 = .ok (.aload_n 0, 1) := dk_42 (dk_at dksJ1_values_0 13 rfl rfl)
theorem dJ1_values_14 : decode cJ1_values 14 = .ok (.invokespecial 239, 3) := dk_183 0 239 (dk_at dksJ1_values_0 14 rfl rfl)
theorem dJ1_values_17 : decode cJ1_values 17 = .ok (.astore_n 1, 1) := dk_76 (dk_at dksJ1_values_0 17 rfl rfl)
theorem dJ1_values_18 : decode cJ1_values 18 = .ok (.aload_n 0, 1) := dk_42 (dk_at dksJ1_values_0 18 rfl rfl)
theorem dJ1_values_19 : decode cJ1_values 19 = .ok (.aload_n 1, 1) := dk_43 (dk_at dksJ1_values_0 19 rfl rfl)
theorem dJ1_values_20 : decode cJ1_values 20 = .ok (.putfield 233, 3) := dk_181 0 233 (dk_at dksJ1_values_0 20 rfl rfl)
theorem dJ1_values_23 : decode cJ1_values 23 = .ok (.aload_n 1, 1) := dk_43 (dk_at dksJ1_values_0 23 rfl rfl)
theorem dJ1_values_24 : decode cJ1_values 24 = .ok (.areturn, 1) := dk_176 (dk_at dksJ1_values_1 0 rfl rfl)
set_option maxHeartbeats 4000000 in
theorem tm_values (l : Launch) (hl : l.stackTraces = false) (g : GE) (A : Nat → Prop) (h : AHT) (tm : Nat) (E F : List Nat) (ks : List Int32) (vs : List Nat) (hT : TM g h tm E F ks vs) : U_ l g A yJ1_values 4 1 1 [.ref tm] h (fun v h' => ∃ (vw : Nat) (F' : List Nat), v = some (.ref vw) ∧ TM g h' tm E F' ks vs ∧ h' vw = some (ob 14 [.ref tm]) ∧ (∀ a, a ∈ F' → a ∈ F ∨ h a = none) ∧ (∀ a, a ∈ F → a ∈ F') ∧ vw ∈ F' ∧ Off [tm] h h') noX := by
  refine U_.of (own := RJ1) (cc := cJ1_values) (L := 2) (ret := (some (Jvm.ClassFile.FieldType.object "java/util/Collection"))) hl rfl (plainFor_of_name (by decide)) ⟨by decide, by decide⟩ q320 q85 (by decide) (fun e => absurd e (by decide)) (Nat.le_of_ble_eq_true rfl) (fun κ cx => ?_)
  show V g A κ _ _ 0 0 h 0 [(0, .ref tm)] []
  obtain ⟨vl, root, md, hc, hv⟩ := hT.cell
  rcases opt_c vl with rfl | ⟨vw, rfl⟩
  · refine V.aload_n cx dJ1_values_0 rfl 0 rfl ?_
    refine V.getS cx kJ1 hc 1 (by decide) q162 q163 rfl dJ1_values_1 ?_
    refine V.astore_nN (lv' := [(1, .null), (0, .ref tm)]) cx dJ1_values_4 rfl (by decide) rfl ?_
    refine V.aload_nN cx dJ1_values_5 rfl 0 rfl ?_
    refine V.ifnonnullN cx dJ1_values_6 ?_
    refine V.new (fs := [.null]) cx kJ8 q321 q322 q93 (fun j hj => by rcases (show j = 0 by omega) with rfl <;> rfl) (by decide) (by decide) dJ1_values_9 (fun q1 hn_q1 => ?_)
    refine V.dup cx dJ1_values_12 rfl ?_
    refine V.aload_n cx dJ1_values_13 rfl 1 rfl ?_
    refine V.callI (As := [.ref tm]) (rest := [.ref q1]) cx (m_valsInit l hl g A (up h q1 (ob 14 [.null])) q1 tm up_s) q323 q324 rfl (na := 1) rfl (by decide +kernel) (Nat.le_of_ble_eq_true rfl) (by decide) (by decide) (by decide) rfl dJ1_values_14 (fun _ _ _ hx => hx.elim) (fun v2 h3 hp => ?_)
    obtain ⟨rfl, rfl⟩ := hp
    show V g A κ _ _ 1 1 (up (up h q1 (ob 14 [.null])) q1 (ob 14 [.ref tm])) 17 [(1, .null), (0, .ref tm)] [.ref q1]
    refine V.astore_n (lv' := [(1, .ref q1), (0, .ref tm)]) cx dJ1_values_17 rfl (by decide) rfl ?_
    refine V.hto (h' := (up h q1 (ob 14 [.ref tm]))) up_up ?_
    refine V.aload_n cx dJ1_values_18 rfl 1 rfl ?_
    refine V.aload_n cx dJ1_values_19 rfl 0 rfl ?_
    refine V.putS (ty := tyJ1 1) cx kJ1 ((up_n (ne_of hc hn_q1)).trans hc) 1 (by decide) rfl (tyJ1_ok 1 (by decide)) rfl rfl (Nat.le_of_ble_eq_true rfl) q162 q163 dJ1_values_20 ?_
    show V g A κ _ _ 1 1 (up (up h q1 (ob 14 [.ref tm])) tm (ob 10 [.null, .ref q1, .null, va_rf root, .int (nI E.length), .int md, .null, .null, .null])) 23 [(1, .ref q1), (0, .ref tm)] []
    refine V.aload_n cx dJ1_values_23 rfl 0 rfl ?_
    exact V.areturn cx rfl (Or.inl ⟨_, rfl⟩) ⟨q1, q1 :: F, rfl, hT.view hc hn_q1, (up_n (Ne.symm (ne_of hc hn_q1))).trans up_s, fun a ha => by rcases List.mem_cons.mp ha with rfl | ha; exact Or.inr hn_q1; exact Or.inl ha, fun a ha => List.mem_cons_of_mem _ ha, List.mem_cons_self, (Off.rf.new hn_q1).put List.mem_cons_self⟩ (by decide) (by decide) dJ1_values_24
  · refine V.aload_n cx dJ1_values_0 rfl 0 rfl ?_
    refine V.getS cx kJ1 hc 1 (by decide) q162 q163 rfl dJ1_values_1 ?_
    refine V.astore_n (lv' := [(1, .ref vw), (0, .ref tm)]) cx dJ1_values_4 rfl (by decide) rfl ?_
    refine V.aload_n cx dJ1_values_5 rfl 0 rfl ?_
    refine V.ifnonnull (tgt := 23) cx dJ1_values_6 (by decide) ?_
    refine V.aload_n cx dJ1_values_23 rfl 0 rfl ?_
    exact V.areturn cx rfl (Or.inl ⟨_, rfl⟩) ⟨vw, F, rfl, hT, (hv vw rfl).1, fun a ha => Or.inl ha, fun a ha => ha, (hv vw rfl).2, Off.rf⟩ (by decide) (by decide) dJ1_values_24
abbrev cJ11_init : ByteArray := prog_70_method_1_code
def yJ11_init : MethodName := ⟨RJ11, "<init>", "(Ljava/util/TreeMap;Ljava/util/TreeMap$Entry;)V"⟩
def dkwJ11_init_1 : List UInt8 := [181, 0, 26, 177]
abbrev dktJ11_init_1 : List UInt8 := dkwJ11_init_1 ++ []
def dkwJ11_init_0 : List UInt8 := [42, 43, 181, 0, 1, 42, 183, 0, 7, 42, 43, 180, 0, 13, 181, 0, 19, 42, 1, 181, 0, 22, 42, 44]
abbrev dktJ11_init_0 : List UInt8 := dkwJ11_init_0 ++ dktJ11_init_1
theorem dksJ11_init_0 : cJ11_init.data.toList.drop 0 = dktJ11_init_0 := by decide +kernel
theorem dksJ11_init_1 : cJ11_init.data.toList.drop 24 = dktJ11_init_1 := dk_seg dksJ11_init_0 24 rfl rfl
theorem dJ11_init_0 : decode cJ11_init 0 = .ok (.aload_n 0, 1) := dk_42 (dk_at dksJ11_init_0 0 rfl rfl)
theorem dJ11_init_1 : decode cJ11_init 1 = .ok (.aload_n 1, 1) := dk_43 (dk_at dksJ11_init_0 1 rfl rfl)
theorem dJ11_init_2 : decode cJ11_init 2 = .ok (.putfield 1, 3) := dk_181 0 1 (dk_at dksJ11_init_0 2 rfl rfl)
theorem dJ11_init_5 : decode cJ11_init 5 = .ok (.aload_n 0, 1) := dk_42 (dk_at dksJ11_init_0 5 rfl rfl)
theorem dJ11_init_6 : decode cJ11_init 6 = .ok (.invokespecial 7, 3) := dk_183 0 7 (dk_at dksJ11_init_0 6 rfl rfl)
theorem dJ11_init_9 : decode cJ11_init 9 = .ok (.aload_n 0, 1) := dk_42 (dk_at dksJ11_init_0 9 rfl rfl)
theorem dJ11_init_10 : decode cJ11_init 10 = .ok (.aload_n 1, 1) := dk_43 (dk_at dksJ11_init_0 10 rfl rfl)
theorem dJ11_init_11 : decode cJ11_init 11 = .ok (.getfield 13, 3) := dk_180 0 13 (dk_at dksJ11_init_0 11 rfl rfl)
theorem dJ11_init_14 : decode cJ11_init 14 = .ok (.putfield 19, 3) := dk_181 0 19 (dk_at dksJ11_init_0 14 rfl rfl)
theorem dJ11_init_17 : decode cJ11_init 17 = .ok (.aload_n 0, 1) := dk_42 (dk_at dksJ11_init_0 17 rfl rfl)
theorem dJ11_init_18 : decode cJ11_init 18 = .ok (.aconst_null, 1) := dk_1 (dk_at dksJ11_init_0 18 rfl rfl)
theorem dJ11_init_19 : decode cJ11_init 19 = .ok (.putfield 22, 3) := dk_181 0 22 (dk_at dksJ11_init_0 19 rfl rfl)
theorem dJ11_init_22 : decode cJ11_init 22 = .ok (.aload_n 0, 1) := dk_42 (dk_at dksJ11_init_0 22 rfl rfl)
theorem dJ11_init_23 : decode cJ11_init 23 = .ok (.aload_n 2, 1) := dk_44 (dk_at dksJ11_init_0 23 rfl rfl)
theorem dJ11_init_24 : decode cJ11_init 24 = .ok (.putfield 26, 3) := dk_181 0 26 (dk_at dksJ11_init_1 0 rfl rfl)
theorem dJ11_init_27 : decode cJ11_init 27 = .ok (.return_, 1) := dk_177 (dk_at dksJ11_init_1 3 rfl rfl)
set_option maxHeartbeats 4000000 in
theorem m_peInitN (l : Launch) (hl : l.stackTraces = false) (g : GE) (A : Nat → Prop) (h : AHT) (a tm : Nat) (vl root : Option Nat) (n : Nat) (md : Int32) (ha : h a = some (ob 17 [.null, .null, .int 0, .null])) (hc : h tm = some (ob 10 [.null, va_rf vl, .null, va_rf root, .int (nI n), .int md, .null, .null, .null])) : U_ l g A yJ11_init 2 0 0 [.ref a, .ref tm, .null] h (fun v h' => v = none ∧ up h a (ob 17 [va_rf none, .null, .int md, .ref tm]) = h') noX := by
  refine U_.of (own := RJ11) (cc := cJ11_init) (L := 3) (ret := (none)) hl rfl (plainFor_of_name (by decide)) ⟨by decide, by decide⟩ q409 q96 (by decide) (fun _ => rfl) (Nat.le_of_ble_eq_true rfl) (fun κ cx => ?_)
  show V g A κ _ _ 0 0 h 0 [(0, .ref a), (1, .ref tm), (2, .null)] []
  refine V.aload_n cx dJ11_init_0 rfl 0 rfl ?_
  refine V.aload_n cx dJ11_init_1 rfl 1 rfl ?_
  refine V.putF (ty := tyJ12 3) cx kJ12 ha 3 (by decide) rfl rfl rfl (tyJ12_ok 3 (by decide)) rfl rfl (Nat.le_of_ble_eq_true rfl) q414 rfl dJ11_init_2 ?_
  show V g A κ _ _ 0 0 (up h a (ob 17 [.null, .null, .int 0, .ref tm])) 5 [(0, .ref a), (1, .ref tm), (2, .null)] []
  refine V.aload_n cx dJ11_init_5 rfl 0 rfl ?_
  refine V.objInit cx q410 q140 q141 (by decide) (Nat.le_of_ble_eq_true rfl) dJ11_init_6 ?_
  refine V.aload_n cx dJ11_init_9 rfl 0 rfl ?_
  refine V.aload_n cx dJ11_init_10 rfl 1 rfl ?_
  refine V.getN cx kJ1 ((up_n (Ne.symm (fun z => by rw [z, hc] at ha; cases ha))).trans hc) 5 (by decide) q161 rfl rfl dJ11_init_11 ?_
  refine V.put (ty := tyJ12 2) cx kJ12 up_s 2 (by decide) rfl (tyJ12_ok 2 (by decide)) rfl rfl (Nat.le_of_ble_eq_true rfl) q413 rfl dJ11_init_14 ?_
  show V g A κ _ _ 0 0 (up (up h a (ob 17 [.null, .null, .int 0, .ref tm])) a (ob 17 [.null, .null, .int md, .ref tm])) 17 [(0, .ref a), (1, .ref tm), (2, .null)] []
  refine V.aload_n cx dJ11_init_17 rfl 0 rfl ?_
  refine V.null cx dJ11_init_18 ?_
  refine V.put (ty := tyJ12 1) cx kJ12 up_s 1 (by decide) rfl (tyJ12_ok 1 (by decide)) rfl rfl (Nat.le_of_ble_eq_true rfl) q412 rfl dJ11_init_19 ?_
  show V g A κ _ _ 0 0 (up (up (up h a (ob 17 [.null, .null, .int 0, .ref tm])) a (ob 17 [.null, .null, .int md, .ref tm])) a (ob 17 [.null, .null, .int md, .ref tm])) 22 [(0, .ref a), (1, .ref tm), (2, .null)] []
  refine V.aload_n cx dJ11_init_22 rfl 0 rfl ?_
  refine V.aload_nN cx dJ11_init_23 rfl 2 rfl ?_
  refine V.put (ty := tyJ12 0) cx kJ12 up_s 0 (by decide) rfl (tyJ12_ok 0 (by decide)) rfl rfl (Nat.le_of_ble_eq_true rfl) q411 rfl dJ11_init_24 ?_
  show V g A κ _ _ 0 0 (up (up (up (up h a (ob 17 [.null, .null, .int 0, .ref tm])) a (ob 17 [.null, .null, .int md, .ref tm])) a (ob 17 [.null, .null, .int md, .ref tm])) a (ob 17 [.null, .null, .int md, .ref tm])) 27 [(0, .ref a), (1, .ref tm), (2, .null)] []
  exact V.vreturn cx rfl ⟨rfl, by simp only [up_up]; rfl⟩ (by decide) (by decide) dJ11_init_27
abbrev cJ12_init : ByteArray := prog_71_method_1_code
def yJ12_init : MethodName := ⟨RJ12, "<init>", "(Ljava/util/TreeMap;Ljava/util/TreeMap$Entry;)V"⟩
def dkwJ12_init_0 : List UInt8 := [42, 43, 44, 183, 0, 1, 177]
abbrev dktJ12_init_0 : List UInt8 := dkwJ12_init_0 ++ []
theorem dksJ12_init_0 : cJ12_init.data.toList.drop 0 = dktJ12_init_0 := by decide +kernel
theorem dJ12_init_0 : decode cJ12_init 0 = .ok (.aload_n 0, 1) := dk_42 (dk_at dksJ12_init_0 0 rfl rfl)
theorem dJ12_init_1 : decode cJ12_init 1 = .ok (.aload_n 1, 1) := dk_43 (dk_at dksJ12_init_0 1 rfl rfl)
theorem dJ12_init_2 : decode cJ12_init 2 = .ok (.aload_n 2, 1) := dk_44 (dk_at dksJ12_init_0 2 rfl rfl)
theorem dJ12_init_3 : decode cJ12_init 3 = .ok (.invokespecial 1, 3) := dk_183 0 1 (dk_at dksJ12_init_0 3 rfl rfl)
theorem dJ12_init_6 : decode cJ12_init 6 = .ok (.return_, 1) := dk_177 (dk_at dksJ12_init_0 6 rfl rfl)
set_option maxHeartbeats 4000000 in
theorem m_viInitN (l : Launch) (hl : l.stackTraces = false) (g : GE) (A : Nat → Prop) (h : AHT) (a tm : Nat) (vl root : Option Nat) (n : Nat) (md : Int32) (ha : h a = some (ob 17 [.null, .null, .int 0, .null])) (hc : h tm = some (ob 10 [.null, va_rf vl, .null, va_rf root, .int (nI n), .int md, .null, .null, .null])) : U_ l g A yJ12_init 3 0 0 [.ref a, .ref tm, .null] h (fun v h' => v = none ∧ up h a (ob 17 [va_rf none, .null, .int md, .ref tm]) = h') noX := by
  refine U_.of (own := RJ12) (cc := cJ12_init) (L := 3) (ret := (none)) hl rfl (plainFor_of_name (by decide)) ⟨by decide, by decide⟩ q406 q97 (by decide) (fun _ => rfl) (Nat.le_of_ble_eq_true rfl) (fun κ cx => ?_)
  show V g A κ _ _ 0 0 h 0 [(0, .ref a), (1, .ref tm), (2, .null)] []
  refine V.aload_n cx dJ12_init_0 rfl 0 rfl ?_
  refine V.aload_n cx dJ12_init_1 rfl 1 rfl ?_
  refine V.aload_nN cx dJ12_init_2 rfl 2 rfl ?_
  refine V.callI (As := [.ref tm, .null]) (rest := []) cx (m_peInitN l hl g A h a tm vl root n md ha hc) q407 q408 rfl (na := 2) rfl (by decide +kernel) (Nat.le_of_ble_eq_true rfl) (by decide) (by decide) (by decide) rfl dJ12_init_3 (fun _ _ _ hx => hx.elim) (fun v1 h2 hp => ?_)
  obtain ⟨rfl, rfl⟩ := hp
  show V g A κ _ _ 0 0 (up h a (ob 17 [va_rf none, .null, .int md, .ref tm])) 6 [(0, .ref a), (1, .ref tm), (2, .null)] []
  exact V.vreturn cx rfl ⟨rfl, rfl⟩ (by decide) (by decide) dJ12_init_6
set_option maxHeartbeats 4000000 in
theorem m_peInitS (l : Launch) (hl : l.stackTraces = false) (g : GE) (A : Nat → Prop) (h : AHT) (a tm : Nat) (o : Nat) (vl root : Option Nat) (n : Nat) (md : Int32) (ha : h a = some (ob 17 [.null, .null, .int 0, .null])) (hc : h tm = some (ob 10 [.null, va_rf vl, .null, va_rf root, .int (nI n), .int md, .null, .null, .null])) : U_ l g A yJ11_init 2 0 0 [.ref a, .ref tm, .ref o] h (fun v h' => v = none ∧ up h a (ob 17 [va_rf (some o), .null, .int md, .ref tm]) = h') noX := by
  refine U_.of (own := RJ11) (cc := cJ11_init) (L := 3) (ret := (none)) hl rfl (plainFor_of_name (by decide)) ⟨by decide, by decide⟩ q409 q96 (by decide) (fun _ => rfl) (Nat.le_of_ble_eq_true rfl) (fun κ cx => ?_)
  show V g A κ _ _ 0 0 h 0 [(0, .ref a), (1, .ref tm), (2, .ref o)] []
  refine V.aload_n cx dJ11_init_0 rfl 0 rfl ?_
  refine V.aload_n cx dJ11_init_1 rfl 1 rfl ?_
  refine V.putF (ty := tyJ12 3) cx kJ12 ha 3 (by decide) rfl rfl rfl (tyJ12_ok 3 (by decide)) rfl rfl (Nat.le_of_ble_eq_true rfl) q414 rfl dJ11_init_2 ?_
  show V g A κ _ _ 0 0 (up h a (ob 17 [.null, .null, .int 0, .ref tm])) 5 [(0, .ref a), (1, .ref tm), (2, .ref o)] []
  refine V.aload_n cx dJ11_init_5 rfl 0 rfl ?_
  refine V.objInit cx q410 q140 q141 (by decide) (Nat.le_of_ble_eq_true rfl) dJ11_init_6 ?_
  refine V.aload_n cx dJ11_init_9 rfl 0 rfl ?_
  refine V.aload_n cx dJ11_init_10 rfl 1 rfl ?_
  refine V.getN cx kJ1 ((up_n (Ne.symm (fun z => by rw [z, hc] at ha; cases ha))).trans hc) 5 (by decide) q161 rfl rfl dJ11_init_11 ?_
  refine V.put (ty := tyJ12 2) cx kJ12 up_s 2 (by decide) rfl (tyJ12_ok 2 (by decide)) rfl rfl (Nat.le_of_ble_eq_true rfl) q413 rfl dJ11_init_14 ?_
  show V g A κ _ _ 0 0 (up (up h a (ob 17 [.null, .null, .int 0, .ref tm])) a (ob 17 [.null, .null, .int md, .ref tm])) 17 [(0, .ref a), (1, .ref tm), (2, .ref o)] []
  refine V.aload_n cx dJ11_init_17 rfl 0 rfl ?_
  refine V.null cx dJ11_init_18 ?_
  refine V.put (ty := tyJ12 1) cx kJ12 up_s 1 (by decide) rfl (tyJ12_ok 1 (by decide)) rfl rfl (Nat.le_of_ble_eq_true rfl) q412 rfl dJ11_init_19 ?_
  show V g A κ _ _ 0 0 (up (up (up h a (ob 17 [.null, .null, .int 0, .ref tm])) a (ob 17 [.null, .null, .int md, .ref tm])) a (ob 17 [.null, .null, .int md, .ref tm])) 22 [(0, .ref a), (1, .ref tm), (2, .ref o)] []
  refine V.aload_n cx dJ11_init_22 rfl 0 rfl ?_
  refine V.aload_n cx dJ11_init_23 rfl 2 rfl ?_
  refine V.put (ty := tyJ12 0) cx kJ12 up_s 0 (by decide) rfl (tyJ12_ok 0 (by decide)) rfl rfl (Nat.le_of_ble_eq_true rfl) q411 rfl dJ11_init_24 ?_
  show V g A κ _ _ 0 0 (up (up (up (up h a (ob 17 [.null, .null, .int 0, .ref tm])) a (ob 17 [.null, .null, .int md, .ref tm])) a (ob 17 [.null, .null, .int md, .ref tm])) a (ob 17 [.ref o, .null, .int md, .ref tm])) 27 [(0, .ref a), (1, .ref tm), (2, .ref o)] []
  exact V.vreturn cx rfl ⟨rfl, by simp only [up_up]; rfl⟩ (by decide) (by decide) dJ11_init_27
set_option maxHeartbeats 4000000 in
theorem m_viInitS (l : Launch) (hl : l.stackTraces = false) (g : GE) (A : Nat → Prop) (h : AHT) (a tm : Nat) (o : Nat) (vl root : Option Nat) (n : Nat) (md : Int32) (ha : h a = some (ob 17 [.null, .null, .int 0, .null])) (hc : h tm = some (ob 10 [.null, va_rf vl, .null, va_rf root, .int (nI n), .int md, .null, .null, .null])) : U_ l g A yJ12_init 3 0 0 [.ref a, .ref tm, .ref o] h (fun v h' => v = none ∧ up h a (ob 17 [va_rf (some o), .null, .int md, .ref tm]) = h') noX := by
  refine U_.of (own := RJ12) (cc := cJ12_init) (L := 3) (ret := (none)) hl rfl (plainFor_of_name (by decide)) ⟨by decide, by decide⟩ q406 q97 (by decide) (fun _ => rfl) (Nat.le_of_ble_eq_true rfl) (fun κ cx => ?_)
  show V g A κ _ _ 0 0 h 0 [(0, .ref a), (1, .ref tm), (2, .ref o)] []
  refine V.aload_n cx dJ12_init_0 rfl 0 rfl ?_
  refine V.aload_n cx dJ12_init_1 rfl 1 rfl ?_
  refine V.aload_n cx dJ12_init_2 rfl 2 rfl ?_
  refine V.callI (As := [.ref tm, .ref o]) (rest := []) cx (m_peInitS l hl g A h a tm o vl root n md ha hc) q407 q408 rfl (na := 2) rfl (by decide +kernel) (Nat.le_of_ble_eq_true rfl) (by decide) (by decide) (by decide) rfl dJ12_init_3 (fun _ _ _ hx => hx.elim) (fun v1 h2 hp => ?_)
  obtain ⟨rfl, rfl⟩ := hp
  show V g A κ _ _ 0 0 (up h a (ob 17 [va_rf (some o), .null, .int md, .ref tm])) 6 [(0, .ref a), (1, .ref tm), (2, .ref o)] []
  exact V.vreturn cx rfl ⟨rfl, rfl⟩ (by decide) (by decide) dJ12_init_6
abbrev cJ8_iterator : ByteArray := prog_72_method_2_code
def yJ8_iterator : MethodName := ⟨RJ8, "iterator", "()Ljava/util/Iterator;"⟩
def dkwJ8_iterator_0 : List UInt8 := [187, 0, 13, 89, 42, 180, 0, 1, 42, 180, 0, 1, 182, 0, 15, 183, 0, 21, 176]
abbrev dktJ8_iterator_0 : List UInt8 := dkwJ8_iterator_0 ++ []
theorem dksJ8_iterator_0 : cJ8_iterator.data.toList.drop 0 = dktJ8_iterator_0 := by decide +kernel
theorem dJ8_iterator_0 : decode cJ8_iterator 0 = .ok (.new 13, 3) := dk_187 0 13 (dk_at dksJ8_iterator_0 0 rfl rfl)
theorem dJ8_iterator_3 : decode cJ8_iterator 3 = .ok (.dup, 1) := dk_89 (dk_at dksJ8_iterator_0 3 rfl rfl)
theorem dJ8_iterator_4 : decode cJ8_iterator 4 = .ok (.aload_n 0, 1) := dk_42 (dk_at dksJ8_iterator_0 4 rfl rfl)
theorem dJ8_iterator_5 : decode cJ8_iterator 5 = .ok (.getfield 1, 3) := dk_180 0 1 (dk_at dksJ8_iterator_0 5 rfl rfl)
theorem dJ8_iterator_8 : decode cJ8_iterator 8 = .ok (.aload_n 0, 1) := dk_42 (dk_at dksJ8_iterator_0 8 rfl rfl)
theorem dJ8_iterator_9 : decode cJ8_iterator 9 = .ok (.getfield 1, 3) := dk_180 0 1 (dk_at dksJ8_iterator_0 9 rfl rfl)
theorem dJ8_iterator_12 : decode cJ8_iterator 12 = .ok (.invokevirtual 15, 3) := dk_182 0 15 (dk_at dksJ8_iterator_0 12 rfl rfl)
theorem dJ8_iterator_15 : decode cJ8_iterator 15 = .ok (.invokespecial 21, 3) := dk_183 0 21 (dk_at dksJ8_iterator_0 15 rfl rfl)
theorem dJ8_iterator_18 : decode cJ8_iterator 18 = .ok (.areturn, 1) := dk_176 (dk_at dksJ8_iterator_0 18 rfl rfl)
set_option maxHeartbeats 4000000 in
theorem tm_iter (l : Launch) (hl : l.stackTraces = false) (g : GE) (A : Nat → Prop) (h : AHT) (tm : Nat) (E F : List Nat) (ks : List Int32) (vs : List Nat) (hT : TM g h tm E F ks vs) (vw : Nat) (hv : h vw = some (ob 14 [.ref tm])) : U_ l g A yJ8_iterator 4 1 4 [.ref vw] h (fun v h' => ∃ it, v = some (.ref it) ∧ h it = none ∧ TIt g h' it tm E 0 ∧ Ext h h') noX := by
  refine U_.of (own := RJ8) (cc := cJ8_iterator) (L := 1) (ret := (some (Jvm.ClassFile.FieldType.object "java/util/Iterator"))) hl rfl (plainFor_of_name (by decide)) ⟨by decide, by decide⟩ q397 q93 (by decide) (fun e => absurd e (by decide)) (Nat.le_of_ble_eq_true rfl) (fun κ cx => ?_)
  show V g A κ _ _ 0 0 h 0 [(0, .ref vw)] []
  obtain ⟨vl, root, md, hc, -⟩ := hT.cell
  refine V.new (fs := [.null, .null, .int 0, .null]) cx kJ12 q398 q399 q97 (fun j hj => by rcases (show j = 0 ∨ j = 1 ∨ j = 2 ∨ j = 3 by omega) with rfl | rfl | rfl | rfl <;> rfl) (by decide) (by decide) dJ8_iterator_0 (fun q1 hn_q1 => ?_)
  refine V.dup cx dJ8_iterator_3 rfl ?_
  refine V.aload_n cx dJ8_iterator_4 rfl 0 rfl ?_
  refine V.get cx kJ8 ((up_n (ne_of hv hn_q1)).trans hv) 0 (by decide) q327 rfl rfl dJ8_iterator_5 ?_
  refine V.aload_n cx dJ8_iterator_8 rfl 0 rfl ?_
  refine V.get cx kJ8 ((up_n (ne_of hv hn_q1)).trans hv) 0 (by decide) q327 rfl rfl dJ8_iterator_9 ?_
  have hT2 := hT.off (Ext.off (S := []) (Ext.new (c := ob 17 [.null, .null, .int 0, .null]) hn_q1)) (fun a _ => List.not_mem_nil)
  refine V.callV (As := []) (rest := [.ref tm, .ref q1, .ref q1]) (C := "java/util/TreeMap") cx (tm_first l hl g A (up h q1 (ob 17 [.null, .null, .int 0, .null])) tm E F ks vs hT2) rfl q400 q401 q402 (Rv.of kJ1 ((up_n (ne_of hc hn_q1)).trans hc)) (na := 0) rfl (by decide +kernel) (Nat.le_of_ble_eq_true rfl) (by decide) (by decide) (by decide) rfl dJ8_iterator_12 (fun _ _ _ hx => hx.elim) (fun v2 h3 hp => ?_)
  obtain ⟨rfl, rfl⟩ := hp
  show V g A κ _ _ 1 4 (up h q1 (ob 17 [.null, .null, .int 0, .null])) 15 [(0, .ref vw)] [va_rf (E[0]?), .ref tm, .ref q1, .ref q1]
  rcases opt_c E[0]? with h9 | ⟨x, h9⟩
  · refine V.toq (o' := none) h9 ?_
    show V g A κ _ _ 1 4 (up h q1 (ob 17 [.null, .null, .int 0, .null])) 15 [(0, .ref vw)] [.null, .ref tm, .ref q1, .ref q1]
    refine V.callI (As := [.ref tm, .null]) (rest := [.ref q1]) cx (m_viInitN l hl g A (up h q1 (ob 17 [.null, .null, .int 0, .null])) q1 tm vl root E.length md up_s ((up_n (ne_of hc hn_q1)).trans hc)) q404 q405 rfl (na := 2) rfl (by decide +kernel) (Nat.le_of_ble_eq_true rfl) (by decide) (by decide) (by decide) rfl dJ8_iterator_15 (fun _ _ _ hx => hx.elim) (fun v4 h5 hp => ?_)
    obtain ⟨rfl, rfl⟩ := hp
    show V g A κ _ _ 1 4 (up (up h q1 (ob 17 [.null, .null, .int 0, .null])) q1 (ob 17 [va_rf none, .null, .int md, .ref tm])) 18 [(0, .ref vw)] [.ref q1]
    exact V.areturn cx rfl (Or.inl ⟨_, rfl⟩) ⟨q1, rfl, hn_q1, ⟨none, vl, root, md, E.length, by rw [h9]; exact up_s, (up_n (ne_of hc hn_q1)).trans ((up_n (ne_of hc hn_q1)).trans hc)⟩, Off.ext ((Off.rf.new hn_q1).upn hn_q1)⟩ (by decide) (by decide) dJ8_iterator_18
  · refine V.toq (o' := (some x)) h9 ?_
    show V g A κ _ _ 1 4 (up h q1 (ob 17 [.null, .null, .int 0, .null])) 15 [(0, .ref vw)] [.ref x, .ref tm, .ref q1, .ref q1]
    refine V.callI (As := [.ref tm, .ref x]) (rest := [.ref q1]) cx (m_viInitS l hl g A (up h q1 (ob 17 [.null, .null, .int 0, .null])) q1 tm x vl root E.length md up_s ((up_n (ne_of hc hn_q1)).trans hc)) q404 q405 rfl (na := 2) rfl (by decide +kernel) (Nat.le_of_ble_eq_true rfl) (by decide) (by decide) (by decide) rfl dJ8_iterator_15 (fun _ _ _ hx => hx.elim) (fun v6 h7 hp => ?_)
    obtain ⟨rfl, rfl⟩ := hp
    show V g A κ _ _ 1 4 (up (up h q1 (ob 17 [.null, .null, .int 0, .null])) q1 (ob 17 [va_rf (some x), .null, .int md, .ref tm])) 18 [(0, .ref vw)] [.ref q1]
    exact V.areturn cx rfl (Or.inl ⟨_, rfl⟩) ⟨q1, rfl, hn_q1, ⟨none, vl, root, md, E.length, by rw [h9]; exact up_s, (up_n (ne_of hc hn_q1)).trans ((up_n (ne_of hc hn_q1)).trans hc)⟩, Off.ext ((Off.rf.new hn_q1).upn hn_q1)⟩ (by decide) (by decide) dJ8_iterator_18
theorem TIt.rv {g : GE} {h : AHT} {it tm : Nat} {E : List Nat} {i : Nat} (a : TIt g h it tm E i) : Rv g h it "java/util/TreeMap$ValueIterator" := by
  obtain ⟨lr, vl, root, md, n, e1, e2⟩ := a
  exact Rv.of kJ12 e1
abbrev cJ11_hasNext : ByteArray := prog_70_method_2_code
def yJ11_hasNext : MethodName := ⟨RJ11, "hasNext", "()Z"⟩
def dkwJ11_hasNext_0 : List UInt8 := [42, 180, 0, 26, 198, 0, 7, 4, 167, 0, 4, 3, 172]
abbrev dktJ11_hasNext_0 : List UInt8 := dkwJ11_hasNext_0 ++ []
theorem dksJ11_hasNext_0 : cJ11_hasNext.data.toList.drop 0 = dktJ11_hasNext_0 := by decide +kernel
theorem dJ11_hasNext_0 : decode cJ11_hasNext 0 = .ok (.aload_n 0, 1) := dk_42 (dk_at dksJ11_hasNext_0 0 rfl rfl)
theorem dJ11_hasNext_1 : decode cJ11_hasNext 1 = .ok (.getfield 26, 3) := dk_180 0 26 (dk_at dksJ11_hasNext_0 1 rfl rfl)
theorem dJ11_hasNext_4 : decode cJ11_hasNext 4 = .ok (.ifnull 7, 3) := dk_198 0 7 (dk_at dksJ11_hasNext_0 4 rfl rfl)
theorem dJ11_hasNext_7 : decode cJ11_hasNext 7 = .ok (.iconst 1, 1) := dk_4 (dk_at dksJ11_hasNext_0 7 rfl rfl)
theorem dJ11_hasNext_8 : decode cJ11_hasNext 8 = .ok (.goto 4, 3) := dk_167 0 4 (dk_at dksJ11_hasNext_0 8 rfl rfl)
theorem dJ11_hasNext_11 : decode cJ11_hasNext 11 = .ok (.iconst 0, 1) := dk_3 (dk_at dksJ11_hasNext_0 11 rfl rfl)
theorem dJ11_hasNext_12 : decode cJ11_hasNext 12 = .ok (.ireturn, 1) := dk_172 (dk_at dksJ11_hasNext_0 12 rfl rfl)
set_option maxHeartbeats 4000000 in
theorem tm_hasNext (l : Launch) (hl : l.stackTraces = false) (g : GE) (A : Nat → Prop) (h : AHT) (it tm : Nat) (E : List Nat) (i : Nat) (hI : TIt g h it tm E i) : U_ l g A yJ11_hasNext 1 0 0 [.ref it] h (fun v h' => v = some (.int (b2 (decide (i < E.length)))) ∧ h = h') noX := by
  refine U_.of (own := RJ11) (cc := cJ11_hasNext) (L := 1) (ret := (some Jvm.ClassFile.FieldType.boolean)) hl rfl (plainFor_of_name (by decide)) ⟨by decide, by decide⟩ q445 q96 (by decide) (fun e => absurd e (by decide)) (Nat.le_of_ble_eq_true rfl) (fun κ cx => ?_)
  show V g A κ _ _ 0 0 h 0 [(0, .ref it)] []
  obtain ⟨lr, vl, root, md, n, e1, e2⟩ := hI
  rcases opt_c E[i]? with h9 | ⟨x, h9⟩
  · rw [h9] at e1
    refine V.aload_n cx dJ11_hasNext_0 rfl 0 rfl ?_
    refine V.get cx kJ12 e1 0 (by decide) q411 rfl rfl dJ11_hasNext_1 ?_
    refine V.ifnullN (tgt := 11) cx dJ11_hasNext_4 (by decide) ?_
    refine V.iconst (v := (nI 0)) cx dJ11_hasNext_11 (by decide) ?_
    have hd : decide (i < E.length) = false := decide_eq_false (fun z => by rw [List.getElem?_eq_getElem z] at h9; cases h9)
    refine V.toi (y := b2 (decide (i < E.length))) (by rw [hd]; decide) ?_
    exact V.ireturn (x := (b2 (decide (i < E.length)))) cx rfl b2_narrow ⟨rfl, rfl⟩ (by decide) (by decide) dJ11_hasNext_12
  · rw [h9] at e1
    refine V.aload_n cx dJ11_hasNext_0 rfl 0 rfl ?_
    refine V.get cx kJ12 e1 0 (by decide) q411 rfl rfl dJ11_hasNext_1 ?_
    refine V.ifnull cx dJ11_hasNext_4 ?_
    refine V.iconst (v := (nI 1)) cx dJ11_hasNext_7 (by decide) ?_
    refine V.goto (tgt := 12) cx dJ11_hasNext_8 (by decide) ?_
    have hd : decide (i < E.length) = true := decide_eq_true (List.getElem?_eq_some_iff.mp h9).1
    refine V.toi (y := b2 (decide (i < E.length))) (by rw [hd]; decide) ?_
    exact V.ireturn (x := (b2 (decide (i < E.length)))) cx rfl b2_narrow ⟨rfl, rfl⟩ (by decide) (by decide) dJ11_hasNext_12
abbrev cJ11_nextEntry : ByteArray := prog_70_method_3_code
def yJ11_nextEntry : MethodName := ⟨RJ11, "nextEntry", "()Ljava/util/TreeMap$Entry;"⟩
def dkwJ11_nextEntry_2 : List UInt8 := [43, 181, 0, 22, 43, 176]
abbrev dktJ11_nextEntry_2 : List UInt8 := dkwJ11_nextEntry_2 ++ []
def dkwJ11_nextEntry_1 : List UInt8 := [42, 180, 0, 19, 159, 0, 11, 187, 0, 32, 89, 183, 0, 34, 191, 42, 43, 184, 0, 35, 181, 0, 26, 42]
abbrev dktJ11_nextEntry_1 : List UInt8 := dkwJ11_nextEntry_1 ++ dktJ11_nextEntry_2
def dkwJ11_nextEntry_0 : List UInt8 := [42, 180, 0, 26, 76, 43, 199, 0, 11, 187, 0, 29, 89, 183, 0, 31, 191, 42, 180, 0, 1, 180, 0, 13]
abbrev dktJ11_nextEntry_0 : List UInt8 := dkwJ11_nextEntry_0 ++ dktJ11_nextEntry_1
theorem dksJ11_nextEntry_0 : cJ11_nextEntry.data.toList.drop 0 = dktJ11_nextEntry_0 := by decide +kernel
theorem dksJ11_nextEntry_1 : cJ11_nextEntry.data.toList.drop 24 = dktJ11_nextEntry_1 := dk_seg dksJ11_nextEntry_0 24 rfl rfl
theorem dksJ11_nextEntry_2 : cJ11_nextEntry.data.toList.drop 48 = dktJ11_nextEntry_2 := dk_seg dksJ11_nextEntry_1 24 rfl rfl
theorem dJ11_nextEntry_0 : decode cJ11_nextEntry 0 = .ok (.aload_n 0, 1) := dk_42 (dk_at dksJ11_nextEntry_0 0 rfl rfl)
theorem dJ11_nextEntry_1 : decode cJ11_nextEntry 1 = .ok (.getfield 26, 3) := dk_180 0 26 (dk_at dksJ11_nextEntry_0 1 rfl rfl)
theorem dJ11_nextEntry_4 : decode cJ11_nextEntry 4 = .ok (.astore_n 1, 1) := dk_76 (dk_at dksJ11_nextEntry_0 4 rfl rfl)
theorem dJ11_nextEntry_5 : decode cJ11_nextEntry 5 = .ok (.aload_n 1, 1) := dk_43 (dk_at dksJ11_nextEntry_0 5 rfl rfl)
theorem dJ11_nextEntry_6 : decode cJ11_nextEntry 6 = .ok (.ifnonnull 11, 3) := dk_199 0 11 (dk_at dksJ11_nextEntry_0 6 rfl rfl)
theorem dJ11_nextEntry_9 : decode cJ11_nextEntry 9 = .ok (.new 29, 3) := dk_187 0 29 (dk_at dksJ11_nextEntry_0 9 rfl rfl)
theorem dJ11_nextEntry_12 : decode cJ11_nextEntry 12 = .ok (.dup, 1) := dk_89 (dk_at dksJ11_nextEntry_0 12 rfl rfl)
theorem dJ11_nextEntry_13 : decode cJ11_nextEntry 13 = .ok (.invokespecial 31, 3) := dk_183 0 31 (dk_at dksJ11_nextEntry_0 13 rfl rfl)
theorem dJ11_nextEntry_16 : decode cJ11_nextEntry 16 = .ok (.athrow, 1) := dk_191 (dk_at dksJ11_nextEntry_0 16 rfl rfl)
theorem dJ11_nextEntry_17 : decode cJ11_nextEntry 17 = .ok (.aload_n 0, 1) := dk_42 (dk_at dksJ11_nextEntry_0 17 rfl rfl)
theorem dJ11_nextEntry_18 : decode cJ11_nextEntry 18 = .ok (.getfield 1, 3) := dk_180 0 1 (dk_at dksJ11_nextEntry_0 18 rfl rfl)
theorem dJ11_nextEntry_21 : decode cJ11_nextEntry 21 = .ok (.getfield 13, 3) := dk_180 0 13 (dk_at dksJ11_nextEntry_0 21 rfl rfl)
theorem dJ11_nextEntry_24 : decode cJ11_nextEntry 24 = .ok (.aload_n 0, 1) := dk_42 (dk_at dksJ11_nextEntry_1 0 rfl rfl)
theorem dJ11_nextEntry_25 : decode cJ11_nextEntry 25 = .ok (.getfield 19, 3) := dk_180 0 19 (dk_at dksJ11_nextEntry_1 1 rfl rfl)
theorem dJ11_nextEntry_28 : decode cJ11_nextEntry 28 = .ok (.if_icmp .eq 11, 3) := dk_159 0 11 (dk_at dksJ11_nextEntry_1 4 rfl rfl)
theorem dJ11_nextEntry_31 : decode cJ11_nextEntry 31 = .ok (.new 32, 3) := dk_187 0 32 (dk_at dksJ11_nextEntry_1 7 rfl rfl)
theorem dJ11_nextEntry_34 : decode cJ11_nextEntry 34 = .ok (.dup, 1) := dk_89 (dk_at dksJ11_nextEntry_1 10 rfl rfl)
theorem dJ11_nextEntry_35 : decode cJ11_nextEntry 35 = .ok (.invokespecial 34, 3) := dk_183 0 34 (dk_at dksJ11_nextEntry_1 11 rfl rfl)
theorem dJ11_nextEntry_38 : decode cJ11_nextEntry 38 = .ok (.athrow, 1) := dk_191 (dk_at dksJ11_nextEntry_1 14 rfl rfl)
theorem dJ11_nextEntry_39 : decode cJ11_nextEntry 39 = .ok (.aload_n 0, 1) := dk_42 (dk_at dksJ11_nextEntry_1 15 rfl rfl)
theorem dJ11_nextEntry_40 : decode cJ11_nextEntry 40 = .ok (.aload_n 1, 1) := dk_43 (dk_at dksJ11_nextEntry_1 16 rfl rfl)
theorem dJ11_nextEntry_41 : decode cJ11_nextEntry 41 = .ok (.invokestatic 35, 3) := dk_184 0 35 (dk_at dksJ11_nextEntry_1 17 rfl rfl)
theorem dJ11_nextEntry_44 : decode cJ11_nextEntry 44 = .ok (.putfield 26, 3) := dk_181 0 26 (dk_at dksJ11_nextEntry_1 20 rfl rfl)
theorem dJ11_nextEntry_47 : decode cJ11_nextEntry 47 = .ok (.aload_n 0, 1) := dk_42 (dk_at dksJ11_nextEntry_1 23 rfl rfl)
theorem dJ11_nextEntry_48 : decode cJ11_nextEntry 48 = .ok (.aload_n 1, 1) := dk_43 (dk_at dksJ11_nextEntry_2 0 rfl rfl)
theorem dJ11_nextEntry_49 : decode cJ11_nextEntry 49 = .ok (.putfield 22, 3) := dk_181 0 22 (dk_at dksJ11_nextEntry_2 1 rfl rfl)
theorem dJ11_nextEntry_52 : decode cJ11_nextEntry 52 = .ok (.aload_n 1, 1) := dk_43 (dk_at dksJ11_nextEntry_2 4 rfl rfl)
theorem dJ11_nextEntry_53 : decode cJ11_nextEntry 53 = .ok (.areturn, 1) := dk_176 (dk_at dksJ11_nextEntry_2 5 rfl rfl)
set_option maxHeartbeats 4000000 in
theorem tm_nextE (l : Launch) (hl : l.stackTraces = false) (g : GE) (A : Nat → Prop) (h : AHT) (tm : Nat) (E F : List Nat) (ks : List Int32) (vs : List Nat) (hT : TM g h tm E F ks vs) (it i : Nat) (hI : TIt g h it tm E i) (x : Nat) (hx : E[i]? = some x) : U_ l g A yJ11_nextEntry 2 0 0 [.ref it] h (fun v h' => v = some (.ref x) ∧ TIt g h' it tm E (i + 1) ∧ Off [it] h h') noX := by
  refine U_.of (own := RJ11) (cc := cJ11_nextEntry) (L := 2) (ret := (some (Jvm.ClassFile.FieldType.object "java/util/TreeMap$Entry"))) hl rfl (plainFor_of_name (by decide)) ⟨by decide, by decide⟩ q551 q96 (by decide) (fun e => absurd e (by decide)) (Nat.le_of_ble_eq_true rfl) (fun κ cx => ?_)
  show V g A κ _ _ 0 0 h 0 [(0, .ref it)] []
  obtain ⟨lr, vl, root, md, n, e1, e2⟩ := hI
  rw [hx] at e1
  have nit : it ≠ tm := fun z => by rw [z, e2] at e1; cases e1
  refine V.aload_n cx dJ11_nextEntry_0 rfl 0 rfl ?_
  refine V.get cx kJ12 e1 0 (by decide) q411 rfl rfl dJ11_nextEntry_1 ?_
  refine V.astore_n (lv' := [(1, .ref x), (0, .ref it)]) cx dJ11_nextEntry_4 rfl (by decide) rfl ?_
  refine V.aload_n cx dJ11_nextEntry_5 rfl 0 rfl ?_
  refine V.ifnonnull (tgt := 17) cx dJ11_nextEntry_6 (by decide) ?_
  refine V.aload_n cx dJ11_nextEntry_17 rfl 1 rfl ?_
  refine V.get cx kJ12 e1 3 (by decide) q414 rfl rfl dJ11_nextEntry_18 ?_
  refine V.getN cx kJ1 e2 5 (by decide) q161 rfl rfl dJ11_nextEntry_21 ?_
  refine V.aload_n cx dJ11_nextEntry_24 rfl 1 rfl ?_
  refine V.get cx kJ12 e1 2 (by decide) q413 rfl rfl dJ11_nextEntry_25 ?_
  refine V.icmp_eq (tgt := 39) cx dJ11_nextEntry_28 (by decide) (fun c9 => ?_) (fun c9 => ?_)
  · refine V.aload_n cx dJ11_nextEntry_39 rfl 1 rfl ?_
    refine V.aload_n cx dJ11_nextEntry_40 rfl 0 rfl ?_
    refine V.callS (As := [.ref x]) (rest := [.ref it]) cx (tm_succ l hl g A h tm E F ks vs hT i x hx) q554 q555 (na := 1) rfl (by decide +kernel) (Nat.le_of_ble_eq_true rfl) (by decide) (by decide) (by decide) rfl dJ11_nextEntry_41 (fun _ _ _ hx => hx.elim) (fun v1 h2 hp => ?_)
    obtain ⟨rfl, rfl⟩ := hp
    show V g A κ _ _ 0 0 h 44 [(1, .ref x), (0, .ref it)] [va_rf (E[i + 1]?), .ref it]
    refine V.put (ty := tyJ12 0) cx kJ12 e1 0 (by decide) rfl (tyJ12_ok 0 (by decide)) (va_nar_rf _) (va_fit_rf _) (Nat.le_of_ble_eq_true rfl) q411 rfl dJ11_nextEntry_44 ?_
    show V g A κ _ _ 0 0 (up h it (ob 17 [va_rf (E[i + 1]?), va_rf lr, .int md, .ref tm])) 47 [(1, .ref x), (0, .ref it)] []
    refine V.aload_n cx dJ11_nextEntry_47 rfl 1 rfl ?_
    refine V.aload_n cx dJ11_nextEntry_48 rfl 0 rfl ?_
    refine V.put (ty := tyJ12 1) cx kJ12 up_s 1 (by decide) rfl (tyJ12_ok 1 (by decide)) rfl rfl (Nat.le_of_ble_eq_true rfl) q412 rfl dJ11_nextEntry_49 ?_
    show V g A κ _ _ 0 0 (up (up h it (ob 17 [va_rf (E[i + 1]?), va_rf lr, .int md, .ref tm])) it (ob 17 [va_rf (E[i + 1]?), .ref x, .int md, .ref tm])) 52 [(1, .ref x), (0, .ref it)] []
    refine V.aload_n cx dJ11_nextEntry_52 rfl 0 rfl ?_
    exact V.areturn cx rfl (Or.inl ⟨_, rfl⟩) ⟨rfl, ⟨some x, vl, root, md, n, up_s, (up_n (Ne.symm nit)).trans ((up_n (Ne.symm nit)).trans e2)⟩, (Off.rf.put List.mem_cons_self).put List.mem_cons_self⟩ (by decide) (by decide) dJ11_nextEntry_53
  · exact absurd rfl c9
abbrev cJ12_next : ByteArray := prog_71_method_2_code
def yJ12_next : MethodName := ⟨RJ12, "next", "()Ljava/lang/Object;"⟩
def dkwJ12_next_0 : List UInt8 := [42, 182, 0, 7, 180, 0, 13, 176]
abbrev dktJ12_next_0 : List UInt8 := dkwJ12_next_0 ++ []
theorem dksJ12_next_0 : cJ12_next.data.toList.drop 0 = dktJ12_next_0 := by decide +kernel
theorem dJ12_next_0 : decode cJ12_next 0 = .ok (.aload_n 0, 1) := dk_42 (dk_at dksJ12_next_0 0 rfl rfl)
theorem dJ12_next_1 : decode cJ12_next 1 = .ok (.invokevirtual 7, 3) := dk_182 0 7 (dk_at dksJ12_next_0 1 rfl rfl)
theorem dJ12_next_4 : decode cJ12_next 4 = .ok (.getfield 13, 3) := dk_180 0 13 (dk_at dksJ12_next_0 4 rfl rfl)
theorem dJ12_next_7 : decode cJ12_next 7 = .ok (.areturn, 1) := dk_176 (dk_at dksJ12_next_0 7 rfl rfl)
set_option maxHeartbeats 4000000 in
theorem tm_next (l : Launch) (hl : l.stackTraces = false) (g : GE) (A : Nat → Prop) (h : AHT) (tm : Nat) (E F : List Nat) (ks : List Int32) (vs : List Nat) (hT : TM g h tm E F ks vs) (it i : Nat) (hI : TIt g h it tm E i) (hF : it ∉ F) (hi : i < E.length) : U_ l g A yJ12_next 3 0 0 [.ref it] h (fun v h' => ∃ f, vs[i]? = some f ∧ v = some (.ref f) ∧ TIt g h' it tm E (i + 1) ∧ Off [it] h h') noX := by
  refine U_.of (own := RJ12) (cc := cJ12_next) (L := 1) (ret := (some (Jvm.ClassFile.FieldType.object "java/lang/Object"))) hl rfl (plainFor_of_name (by decide)) ⟨by decide, by decide⟩ q545 q97 (by decide) (fun e => absurd e (by decide)) (Nat.le_of_ble_eq_true rfl) (fun κ cx => ?_)
  show V g A κ _ _ 0 0 h 0 [(0, .ref it)] []
  obtain ⟨x, hx⟩ : ∃ x, E[i]? = some x := ⟨_, List.getElem?_eq_getElem hi⟩
  refine V.aload_n cx dJ12_next_0 rfl 0 rfl ?_
  refine V.callU (As := []) (rest := []) (C := "java/util/TreeMap$ValueIterator") (owner := "java/util/TreeMap$PrivateEntryIterator") (x := ⟨"java/util/TreeMap$ValueIterator", "nextEntry", "()Ljava/util/TreeMap$Entry;"⟩) cx (tm_nextE l hl g A h tm E F ks vs hT it i hI x hx) rfl q546 q547 q549 q550 hI.rv (na := 0) rfl (by decide +kernel) (Nat.le_of_ble_eq_true rfl) (by decide) (by decide) (by decide) rfl dJ12_next_1 (fun _ _ _ hx => hx.elim) (fun v1 h2 hp => ?_)
  obtain ⟨rfl, z1, z2⟩ := hp
  show V g A κ _ _ 0 0 h2 4 [(0, .ref it)] [.ref x]
  have hT2 := hT.off z2 (fun a ha hm => hF (by rw [← List.mem_singleton.mp hm]; exact ha))
  obtain ⟨k9, f9, o1, o2, o3, b9, he, hf⟩ := hT2.ent hx
  refine V.get cx kJ25 he 1 (by decide) q1025 rfl rfl dJ12_next_4 ?_
  exact V.areturn cx rfl (Or.inl ⟨_, rfl⟩) ⟨f9, hf, rfl, z1, z2⟩ (by decide) (by decide) dJ12_next_7
