/-! JDK: TreeMap, as the class uses it -/
set_option maxRecDepth 100000
theorem U_.mono {l : Launch} {g : GE} {A : Nat → Prop} {y : MethodName} {d mc ms : Nat} {av : List Value} {h : AHT} {post post' : Option Value → AHT → Prop} {px px' : String → Nat → AHT → Prop} (h1 : U_ l g A y d mc ms av h post px) (hp : ∀ v h', post v h' → post' v h') (hx : ∀ E q h', px E q h' → px' E q h') : U_ l g A y d mc ms av h post' px' := by
  obtain ⟨bytes, maxL, rt, a, b, c, d', e, hM⟩ := h1
  refine ⟨bytes, maxL, rt, a, b, c, d', e, MetFree.mono hM (fun _ _ h => h) (fun _ _ _ _ _ h => h) (fun a s o t _ hq => ?_)⟩
  rcases hq with ⟨⟨⟨v, h', e1, e2, e3⟩, e4⟩, e5⟩ | ⟨q, e1, E, ce, L, ⟨⟨h', e2, e3⟩, e4⟩, e5⟩
  · exact Or.inl ⟨⟨⟨v, h', e1, hp v h' e2, e3⟩, e4⟩, e5⟩
  · exact Or.inr ⟨q, e1, E, ce, L, ⟨⟨h', hx E q h' e2, e3⟩, e4⟩, e5⟩
theorem del_map {E : List Nat} {ix : Nat → Nat} (h0 : ∀ e, e ∈ E → E[ix e]? = some e) (hn : E.Nodup) {x y : Nat} (hx : x ∈ E) (hy : y ∈ E) (hxy : y = x ∨ ix y = ix x + 1) {β : Type} (f f' : Nat → β) (hf : ∀ e, e ∈ E → f' e = if e = x then f y else f e) : (E.eraseIdx (ix y)).map f' = (E.map f).eraseIdx (ix x) := by
  apply List.ext_getElem?
  intro j
  rw [List.getElem?_map, List.getElem?_eraseIdx, List.getElem?_eraseIdx, List.getElem?_map, List.getElem?_map]
  have key : ∀ i, i ≠ ix x → (E[i]?).map f' = (E[i]?).map f := fun i hi => by
    cases h : E[i]? with
    | none => rfl
    | some e =>
      have he : e ∈ E := List.mem_of_getElem? h
      have : e ≠ x := fun z => hi (nd_ix hn h (z ▸ h0 x hx))
      show some (f' e) = some (f e)
      rw [hf e he, if_neg this]
  rcases hxy with rfl | hxy
  · by_cases h : j < ix y
    · rw [if_pos h, if_pos h]; exact key j (by omega)
    · rw [if_neg h, if_neg h]; exact key (j + 1) (by omega)
  · by_cases h : j < ix x
    · rw [if_pos (by omega), if_pos h]; exact key j (by omega)
    · rw [if_neg h]
      by_cases h2 : j = ix x
      · subst h2
        rw [if_pos (by omega), h0 x hx, ← hxy, h0 y hy]
        show some (f' x) = some (f y)
        rw [hf x hx, if_pos rfl]
      · rw [if_neg (by omega)]; exact key (j + 1) (by omega)
theorem up_id {h : AHT} {a : Nat} {c : va_E} (e : h a = some c) : up h a c = h := by
  funext x; unfold up; by_cases z : x = a <;> simp [z, e]
/-- the TreeMap tm: entries E in order, keys ks, values vs; F: the places it depends on -/
def TM (g : GE) (h : AHT) (tm : Nat) (E F : List Nat) (ks : List Int32) (vs : List Nat) : Prop :=
  ∃ (ix lo hi ka va : Nat → Nat) (lf rt pa : Nat → Option Nat) (co : Nat → Bool) (vl root : Option Nat) (md : Int32) (kk : Nat → Int32), Inv E ix lo hi lf rt pa root ∧ E.Nodup ∧ tm ∉ E ∧ (∀ r, root = some r → co r = true) ∧ tmO E tm ka va lf rt pa co vl root E.length md h = h ∧
    (∀ e, e ∈ E → (h (ka e) = some (ob 18 [.int (kk e)]) ∧ ka e ∈ F) ∨ ∃ G, g.ro (ka e) = some ("java/lang/Integer", G) ∧ ("java/lang/Integer", "value", "I", .int (kk e)) ∈ G) ∧ E.map kk = ks ∧ E.map va = vs ∧ ks.Pairwise (· < ·) ∧ (∀ v, vl = some v → h v = some (ob 14 [.ref tm]) ∧ v ∈ F) ∧
    tm ∈ F ∧ (∀ e, e ∈ E → e ∈ F) ∧ ∀ a, a ∈ F → ∃ c, h a = some c
theorem tmO_off {E : List Nat} {tm : Nat} {ka va : Nat → Nat} {lf rt pa : Nat → Option Nat} {co : Nat → Bool} {vl root : Option Nat} {n : Nat} {md : Int32} {h h' : AHT} {S : List Nat} (e : tmO E tm ka va lf rt pa co vl root n md h = h) (o : Off S h h') (ht : tm ∉ S) (hE : ∀ e, e ∈ E → e ∉ S) (htE : tm ∉ E) : tmO E tm ka va lf rt pa co vl root n md h' = h' := by
  funext x
  unfold tmO
  by_cases h1 : x ∈ E
  · rw [if_pos h1]; exact (o x _ (hE x h1) ((congrFun e x).symm.trans (tm_e h1))).symm
  · rw [if_neg h1]
    by_cases h2 : x = tm
    · subst h2; rw [if_pos rfl]; exact (o x _ ht ((congrFun e x).symm.trans (tm_t htE))).symm
    · rw [if_neg h2]
theorem TM.off {g : GE} {h h' : AHT} {tm : Nat} {E F : List Nat} {ks : List Int32} {vs : List Nat} {S : List Nat} (hT : TM g h tm E F ks vs) (o : Off S h h') (hS : ∀ a, a ∈ F → a ∉ S) : TM g h' tm E F ks vs := by
  obtain ⟨ix, lo, hi, ka, va, lf, rt, pa, co, vl, root, md, kk, t1, t2, t3, t4, t5, t6, t7, t8, t9, t10, t11, t12, t13⟩ := hT
  refine ⟨ix, lo, hi, ka, va, lf, rt, pa, co, vl, root, md, kk, t1, t2, t3, t4, tmO_off t5 o (hS tm t11) (fun e he => hS e (t12 e he)) t3, fun e he => (t6 e he).imp (fun z => ⟨o _ _ (hS _ z.2) z.1, z.2⟩) id, t7, t8, t9, fun v hv => ⟨o _ _ (hS _ (t10 v hv).2) (t10 v hv).1, (t10 v hv).2⟩, t11, t12, fun a ha => ?_⟩
  obtain ⟨c, hc⟩ := t13 a ha
  exact ⟨c, o a c (hS a ha) hc⟩
theorem TM.rv {g : GE} {h : AHT} {tm : Nat} {E F : List Nat} {ks : List Int32} {vs : List Nat} (hT : TM g h tm E F ks vs) : Rv g h tm "java/util/TreeMap" := by
  obtain ⟨ix, lo, hi, ka, va, lf, rt, pa, co, vl, root, md, kk, t1, t2, t3, t4, t5, -⟩ := hT
  exact Rv.of kJ1 ((congrFun t5 tm).symm.trans (tm_t t3))
theorem TM.len {g : GE} {h : AHT} {tm : Nat} {E F : List Nat} {ks : List Int32} {vs : List Nat} (hT : TM g h tm E F ks vs) : E.length = ks.length ∧ vs.length = ks.length := by
  obtain ⟨ix, lo, hi, ka, va, lf, rt, pa, co, vl, root, md, kk, t1, t2, t3, t4, t5, t6, t7, t8, -⟩ := hT
  subst t7; subst t8; simp
theorem find_ix {E : List Nat} {ix : Nat → Nat} (h0 : ∀ e, e ∈ E → E[ix e]? = some e) {β : Type} (f : Nat → β) {e : Nat} (he : e ∈ E) : (E.map f)[ix e]? = some (f e) := by
  rw [List.getElem?_map, h0 e he]; rfl

abbrev cJ1_remove : ByteArray := prog_68_method_34_code
def yJ1_remove : MethodName := ⟨RJ1, "remove", "(Ljava/lang/Object;)Ljava/lang/Object;"⟩
def dkwJ1_remove_0 : List UInt8 := [42, 43, 182, 0, 50, 77, 44, 199, 0, 5, 1, 176, 44, 180, 0, 58, 78, 42, 44, 182, 0, 174, 45, 176]
abbrev dktJ1_remove_0 : List UInt8 := dkwJ1_remove_0 ++ []
theorem dksJ1_remove_0 : cJ1_remove.data.toList.drop 0 = dktJ1_remove_0 := by decide +kernel
theorem dJ1_remove_0 : decode cJ1_remove 0 = .ok (.aload_n 0, 1) := dk_42 (dk_at dksJ1_remove_0 0 rfl rfl)
theorem dJ1_remove_1 : decode cJ1_remove 1 = .ok (.aload_n 1, 1) := dk_43 (dk_at dksJ1_remove_0 1 rfl rfl)
theorem dJ1_remove_2 : decode cJ1_remove 2 = .ok (.invokevirtual 50, 3) := dk_182 0 50 (dk_at dksJ1_remove_0 2 rfl rfl)
theorem dJ1_remove_5 : decode cJ1_remove 5 = .ok (.astore_n 2, 1) := dk_77 (dk_at dksJ1_remove_0 5 rfl rfl)
theorem dJ1_remove_6 : decode cJ1_remove 6 = .ok (.aload_n 2, 1) := dk_44 (dk_at dksJ1_remove_0 6 rfl rfl)
theorem dJ1_remove_7 : decode cJ1_remove 7 = .ok (.ifnonnull 5, 3) := dk_199 0 5 (dk_at dksJ1_remove_0 7 rfl rfl)
theorem dJ1_remove_10 : decode cJ1_remove 10 = .ok (.aconst_null, 1) := dk_1 (dk_at dksJ1_remove_0 10 rfl rfl)
theorem dJ1_remove_11 : decode cJ1_remove 11 = .ok (.areturn, 1) := dk_176 (dk_at dksJ1_remove_0 11 rfl rfl)
theorem dJ1_remove_12 : decode cJ1_remove 12 = .ok (.aload_n 2, 1) := dk_44 (dk_at dksJ1_remove_0 12 rfl rfl)
theorem dJ1_remove_13 : decode cJ1_remove 13 = .ok (.getfield 58, 3) := dk_180 0 58 (dk_at dksJ1_remove_0 13 rfl rfl)
theorem dJ1_remove_16 : decode cJ1_remove 16 = .ok (.astore_n 3, 1) := dk_78 (dk_at dksJ1_remove_0 16 rfl rfl)
theorem dJ1_remove_17 : decode cJ1_remove 17 = .ok (.aload_n 0, 1) := dk_42 (dk_at dksJ1_remove_0 17 rfl rfl)
theorem dJ1_remove_18 : decode cJ1_remove 18 = .ok (.aload_n 2, 1) := dk_44 (dk_at dksJ1_remove_0 18 rfl rfl)
theorem dJ1_remove_19 : decode cJ1_remove 19 = .ok (.invokevirtual 174, 3) := dk_182 0 174 (dk_at dksJ1_remove_0 19 rfl rfl)
theorem dJ1_remove_22 : decode cJ1_remove 22 = .ok (.aload_n 3, 1) := dk_45 (dk_at dksJ1_remove_0 22 rfl rfl)
theorem dJ1_remove_23 : decode cJ1_remove 23 = .ok (.areturn, 1) := dk_176 (dk_at dksJ1_remove_0 23 rfl rfl)
set_option maxHeartbeats 4000000 in
theorem m_remove0 (l : Launch) (hl : l.stackTraces = false) (g : GE) (A : Nat → Prop) (E : List Nat) (tm : Nat) (ka va : Nat → Nat) (lf rt pa : Nat → Option Nat) (co : Nat → Bool) (vl root : Option Nat) (n : Nat) (md : Int32) (h0 : AHT) (ix lo hi : Nat → Nat) (hI : Inv E ix lo hi lf rt pa root) (hnd : E.Nodup) (ht : tm ∉ E) (hb : ∀ r, root = some r → co r = true) (hn : n = E.length) (kk : Nat → Int32) (hkk : ∀ e, e ∈ E → isInt g (tmO E tm ka va lf rt pa co vl root n md h0) (ka e) (kk e)) (hso : ∀ a b, a ∈ E → b ∈ E → ix a < ix b → kk a < kk b) (kr : Nat) (k : Int32) (hk : isInt g (tmO E tm ka va lf rt pa co vl root n md h0) kr k) (hex : ∃ e, e ∈ E ∧ kk e = k) : U_ l g A yJ1_remove 5 0 0 [.ref tm, .ref kr] (tmO E tm ka va lf rt pa co vl root n md h0) (fun v h' => ∃ x, x ∈ E ∧ kk x = k ∧ v = some (.ref (va x)) ∧ ∃ (y : Nat) (ce : va_E) (ix' lo' hi' : Nat → Nat) (lf' rt' pa' : Nat → Option Nat) (co' : Nat → Bool) (root' : Option Nat), y ∈ E ∧ (y = x ∨ ix y = ix x + 1) ∧ Inv (E.eraseIdx (ix y)) ix' lo' hi' lf' rt' pa' root' ∧ (∀ r, root' = some r → co' r = true) ∧ tmO (E.eraseIdx (ix y)) tm (va_up ka x (ka y)) (va_up va x (va y)) lf' rt' pa' co' vl root' (n - 1) (md + 1) (up h0 y ce) = h') noX := by
  refine U_.of (own := RJ1) (cc := cJ1_remove) (L := 4) (ret := (some (Jvm.ClassFile.FieldType.object "java/lang/Object"))) hl rfl (plainFor_of_name (by decide)) ⟨by decide, by decide⟩ q1637 q85 (by decide) (fun e => absurd e (by decide)) (Nat.le_of_ble_eq_true rfl) (fun κ cx => ?_)
  show V g A κ _ _ 0 0 (tmO E tm ka va lf rt pa co vl root n md h0) 0 [(0, .ref tm), (1, .ref kr)] []
  refine V.aload_n cx dJ1_remove_0 rfl 0 rfl ?_
  refine V.aload_n cx dJ1_remove_1 rfl 1 rfl ?_
  refine V.callV (As := [.ref kr]) (rest := []) (C := "java/util/TreeMap") cx (m_getEntry l hl g A E tm ka va lf rt pa co vl root n md h0 ix lo hi hI ht kk hkk hso kr k hk) rfl q671 q672 q673 (Rv.of kJ1 (tm_t ht)) (na := 1) rfl (by decide +kernel) (Nat.le_of_ble_eq_true rfl) (by decide) (by decide) (by decide) rfl dJ1_remove_2 (fun _ _ _ hx => hx.elim) (fun v1 h2 hp => ?_)
  obtain ⟨r_, rfl, rfl, P1, P2⟩ := hp
  show V g A κ _ _ 0 0 (tmO E tm ka va lf rt pa co vl root n md h0) 5 [(0, .ref tm), (1, .ref kr)] [va_rf r_]
  rcases opt_c r_ with rfl | ⟨e, rfl⟩
  · obtain ⟨e9, h9, h8⟩ := hex
    exact absurd h8 (P2 rfl e9 h9)
  · show V g A κ _ _ 0 0 (tmO E tm ka va lf rt pa co vl root n md h0) 5 [(0, .ref tm), (1, .ref kr)] [.ref e]
    refine V.astore_n (lv' := [(2, .ref e), (0, .ref tm), (1, .ref kr)]) cx dJ1_remove_5 rfl (by decide) rfl ?_
    refine V.aload_n cx dJ1_remove_6 rfl 0 rfl ?_
    refine V.ifnonnull (tgt := 12) cx dJ1_remove_7 (by decide) ?_
    refine V.aload_n cx dJ1_remove_12 rfl 0 rfl ?_
    refine V.get cx kJ25 (tm_e (P1 e rfl).1) 1 (by decide) q1026 rfl rfl dJ1_remove_13 ?_
    show V g A κ _ _ 0 0 (tmO E tm ka va lf rt pa co vl root n md h0) 16 [(2, .ref e), (0, .ref tm), (1, .ref kr)] [.ref (va e)]
    refine V.astore_n (lv' := [(3, .ref (va e)), (2, .ref e), (0, .ref tm), (1, .ref kr)]) cx dJ1_remove_16 rfl (by decide) rfl ?_
    refine V.aload_n cx dJ1_remove_17 rfl 2 rfl ?_
    refine V.aload_n cx dJ1_remove_18 rfl 1 rfl ?_
    refine V.callV (As := [.ref e]) (rest := []) (C := "java/util/TreeMap") cx (m_delEntry l hl g A E tm ka va lf rt pa co vl root n md h0 ix lo hi hI hnd ht hb hn e (P1 e rfl).1) rfl q1638 q1640 qs16 (Rv.of kJ1 (tm_t ht)) (na := 1) rfl (by decide +kernel) (Nat.le_of_ble_eq_true rfl) (by decide) (by decide) (by decide) rfl dJ1_remove_19 (fun _ _ _ hx => hx.elim) (fun v3 h4 hp => ?_)
    obtain ⟨rfl, hz⟩ := hp
    show V g A κ _ _ 0 0 h4 22 [(3, .ref (va e)), (2, .ref e), (0, .ref tm), (1, .ref kr)] []
    refine V.aload_n cx dJ1_remove_22 rfl 0 rfl ?_
    exact V.areturn cx rfl (Or.inl ⟨_, rfl⟩) ⟨e, (P1 e rfl).1, (P1 e rfl).2, rfl, hz⟩ (by decide) (by decide) dJ1_remove_23
abbrev cJ0_init : ByteArray := prog_47_method_1_code
def yJ0_init : MethodName := ⟨RJ0, "<init>", "()V"⟩
theorem dJ0_init_0 : decode cJ0_init 0 = .ok (.aload_n 0, 1) := by decide +kernel
theorem dJ0_init_1 : decode cJ0_init 1 = .ok (.invokespecial 1, 3) := by decide +kernel
theorem dJ0_init_4 : decode cJ0_init 4 = .ok (.return_, 1) := by decide +kernel
set_option maxHeartbeats 4000000 in
theorem m_amInit (l : Launch) (hl : l.stackTraces = false) (g : GE) (A : Nat → Prop) (h : AHT) (a : Nat) : U_ l g A yJ0_init 2 0 0 [.ref a] h (fun v h' => v = none ∧ h = h') noX := by
  refine U_.of (own := RJ0) (cc := cJ0_init) (L := 1) (ret := (none)) hl rfl (plainFor_of_name (by decide)) ⟨by decide, by decide⟩ q155 q84 (by decide) (fun _ => rfl) (Nat.le_of_ble_eq_true rfl) (fun κ cx => ?_)
  show V g A κ _ _ 0 0 h 0 [(0, .ref a)] []
  refine V.aload_n cx dJ0_init_0 rfl 0 rfl ?_
  refine V.objInit cx q156 q140 q141 (by decide) (Nat.le_of_ble_eq_true rfl) dJ0_init_1 ?_
  exact V.vreturn cx rfl ⟨rfl, rfl⟩ (by decide) (by decide) dJ0_init_4
abbrev cJ1_init : ByteArray := prog_68_method_1_code
def yJ1_init : MethodName := ⟨RJ1, "<init>", "()V"⟩
def dkwJ1_init_0 : List UInt8 := [42, 183, 0, 1, 42, 3, 181, 0, 7, 42, 3, 181, 0, 13, 42, 1, 181, 0, 16, 177]
abbrev dktJ1_init_0 : List UInt8 := dkwJ1_init_0 ++ []
theorem dksJ1_init_0 : cJ1_init.data.toList.drop 0 = dktJ1_init_0 := by decide +kernel
theorem dJ1_init_0 : decode cJ1_init 0 = .ok (.aload_n 0, 1) := dk_42 (dk_at dksJ1_init_0 0 rfl rfl)
theorem dJ1_init_1 : decode cJ1_init 1 = .ok (.invokespecial 1, 3) := dk_183 0 1 (dk_at dksJ1_init_0 1 rfl rfl)
theorem dJ1_init_4 : decode cJ1_init 4 = .ok (.aload_n 0, 1) := dk_42 (dk_at dksJ1_init_0 4 rfl rfl)
theorem dJ1_init_5 : decode cJ1_init 5 = .ok (.iconst 0, 1) := dk_3 (dk_at dksJ1_init_0 5 rfl rfl)
theorem dJ1_init_6 : decode cJ1_init 6 = .ok (.putfield 7, 3) := dk_181 0 7 (dk_at dksJ1_init_0 6 rfl rfl)
theorem dJ1_init_9 : decode cJ1_init 9 = .ok (.aload_n 0, 1) := dk_42 (dk_at dksJ1_init_0 9 rfl rfl)
theorem dJ1_init_10 : decode cJ1_init 10 = .ok (.iconst 0, 1) := dk_3 (dk_at dksJ1_init_0 10 rfl rfl)
theorem dJ1_init_11 : decode cJ1_init 11 = .ok (.putfield 13, 3) := dk_181 0 13 (dk_at dksJ1_init_0 11 rfl rfl)
theorem dJ1_init_14 : decode cJ1_init 14 = .ok (.aload_n 0, 1) := dk_42 (dk_at dksJ1_init_0 14 rfl rfl)
theorem dJ1_init_15 : decode cJ1_init 15 = .ok (.aconst_null, 1) := dk_1 (dk_at dksJ1_init_0 15 rfl rfl)
theorem dJ1_init_16 : decode cJ1_init 16 = .ok (.putfield 16, 3) := dk_181 0 16 (dk_at dksJ1_init_0 16 rfl rfl)
theorem dJ1_init_19 : decode cJ1_init 19 = .ok (.return_, 1) := dk_177 (dk_at dksJ1_init_0 19 rfl rfl)
set_option maxHeartbeats 4000000 in
theorem m_tmInit0 (l : Launch) (hl : l.stackTraces = false) (g : GE) (A : Nat → Prop) (h : AHT) (a : Nat) (ha : h a = some (ob 10 [.null, .null, .null, .null, .int 0, .int 0, .null, .null, .null])) : U_ l g A yJ1_init 3 0 0 [.ref a] h (fun v h' => v = none ∧ h = h') noX := by
  refine U_.of (own := RJ1) (cc := cJ1_init) (L := 1) (ret := (none)) hl rfl (plainFor_of_name (by decide)) ⟨by decide, by decide⟩ q152 q85 (by decide) (fun _ => rfl) (Nat.le_of_ble_eq_true rfl) (fun κ cx => ?_)
  show V g A κ _ _ 0 0 h 0 [(0, .ref a)] []
  refine V.aload_n cx dJ1_init_0 rfl 0 rfl ?_
  refine V.callI (As := []) (rest := []) cx (m_amInit l hl g A h a) q153 q154 rfl (na := 0) rfl (by decide +kernel) (Nat.le_of_ble_eq_true rfl) (by decide) (by decide) (by decide) rfl dJ1_init_1 (fun _ _ _ hx => hx.elim) (fun v1 h2 hp => ?_)
  obtain ⟨rfl, rfl⟩ := hp
  show V g A κ _ _ 0 0 h 4 [(0, .ref a)] []
  refine V.aload_n cx dJ1_init_4 rfl 0 rfl ?_
  refine V.iconst (v := (nI 0)) cx dJ1_init_5 (by decide) ?_
  refine V.put (ty := tyJ1 4) cx kJ1 ha 4 (by decide) rfl (tyJ1_ok 4 (by decide)) rfl rfl (Nat.le_of_ble_eq_true rfl) q159 rfl dJ1_init_6 ?_
  show V g A κ _ _ 0 0 (up h a (ob 10 [.null, .null, .null, .null, .int (nI 0), .int 0, .null, .null, .null])) 9 [(0, .ref a)] []
  refine V.aload_n cx dJ1_init_9 rfl 0 rfl ?_
  refine V.iconst (v := (nI 0)) cx dJ1_init_10 (by decide) ?_
  refine V.put (ty := tyJ1 5) cx kJ1 up_s 5 (by decide) rfl (tyJ1_ok 5 (by decide)) rfl rfl (Nat.le_of_ble_eq_true rfl) q160 rfl dJ1_init_11 ?_
  show V g A κ _ _ 0 0 (up (up h a (ob 10 [.null, .null, .null, .null, .int (nI 0), .int 0, .null, .null, .null])) a (ob 10 [.null, .null, .null, .null, .int (nI 0), .int (nI 0), .null, .null, .null])) 14 [(0, .ref a)] []
  refine V.aload_n cx dJ1_init_14 rfl 0 rfl ?_
  refine V.null cx dJ1_init_15 ?_
  refine V.putF (ty := tyJ1 2) cx kJ1 up_s 2 (by decide) rfl rfl rfl (tyJ1_ok 2 (by decide)) rfl rfl (Nat.le_of_ble_eq_true rfl) q157 rfl dJ1_init_16 ?_
  show V g A κ _ _ 0 0 (up (up (up h a (ob 10 [.null, .null, .null, .null, .int (nI 0), .int 0, .null, .null, .null])) a (ob 10 [.null, .null, .null, .null, .int (nI 0), .int (nI 0), .null, .null, .null])) a (ob 10 [.null, .null, .null, .null, .int (nI 0), .int (nI 0), .null, .null, .null])) 19 [(0, .ref a)] []
  exact V.vreturn cx rfl ⟨rfl, (by rw [up_up, up_up]; exact (up_id ha).symm)⟩ (by decide) (by decide) dJ1_init_19
theorem tm_get (l : Launch) (hl : l.stackTraces = false) (g : GE) (A : Nat → Prop) (h : AHT) (tm : Nat) (E F : List Nat) (ks : List Int32) (vs : List Nat) (hT : TM g h tm E F ks vs) (kr : Nat) (k : Int32) (hk : isInt g h kr k) :
    U_ l g A yJ1_get 5 0 0 [.ref tm, .ref kr] h (fun v h' => ∃ r : Option Nat, v = some (va_rf r) ∧ h = h' ∧ (∀ f, r = some f → ∃ j : Nat, ks[j]? = some k ∧ vs[j]? = some f) ∧ (r = none → k ∉ ks)) noX := by
  obtain ⟨ix, lo, hi, ka, va, lf, rt, pa, co, vl, root, md, kk, t1, t2, t3, t4, t5, t6, t7, t8, t9, t10, t11, t12, t13⟩ := hT
  have hkk : ∀ e, e ∈ E → isInt g h (ka e) (kk e) := fun e he => (t6 e he).imp (fun z => z.1) id
  have w := m_tmGet l hl g A E tm ka va lf rt pa co vl root E.length md h ix lo hi t1 t3 kk (by rw [t5]; exact hkk) (TM_sorted t1 (t7 ▸ t9)) kr k (by rw [t5]; exact hk)
  rw [t5] at w
  refine w.mono (fun v h' => ?_) (fun _ _ _ z => z)
  rintro ⟨r, e1, e2, e3, e4⟩
  refine ⟨_, e1, e2, fun f hf => ?_, fun hn => ?_⟩
  · cases r with
    | none => cases hf
    | some e =>
      obtain ⟨a1, a2⟩ := e3 e rfl
      cases hf
      exact ⟨ix e, by rw [← t7, find_ix t1.1 kk a1, a2], by rw [← t8, find_ix t1.1 va a1]⟩
  · cases r with
    | none => 
      intro hm
      rw [← t7] at hm
      obtain ⟨e, a1, a2⟩ := List.mem_map.mp hm
      exact e4 rfl e a1 a2
    | some e => cases hn
theorem tm_has (l : Launch) (hl : l.stackTraces = false) (g : GE) (A : Nat → Prop) (h : AHT) (tm : Nat) (E F : List Nat) (ks : List Int32) (vs : List Nat) (hT : TM g h tm E F ks vs) (kr : Nat) (k : Int32) (hk : isInt g h kr k) :
    U_ l g A yJ1_containsKey 5 0 0 [.ref tm, .ref kr] h (fun v h' => v = some (.int (b2 (decide (k ∈ ks)))) ∧ h = h') noX := by
  obtain ⟨ix, lo, hi, ka, va, lf, rt, pa, co, vl, root, md, kk, t1, t2, t3, t4, t5, t6, t7, t8, t9, t10, t11, t12, t13⟩ := hT
  have hkk : ∀ e, e ∈ E → isInt g h (ka e) (kk e) := fun e he => (t6 e he).imp (fun z => z.1) id
  have w := m_tmHas l hl g A E tm ka va lf rt pa co vl root E.length md h ix lo hi t1 t3 kk (by rw [t5]; exact hkk) (TM_sorted t1 (t7 ▸ t9)) kr k (by rw [t5]; exact hk)
  rw [t5] at w
  refine w.mono (fun v h' => ?_) (fun _ _ _ z => z)
  rintro ⟨r, e1, e2, e3, e4⟩
  refine ⟨e1.trans ?_, e2⟩
  cases r with
  | none =>
    rw [decide_eq_false (fun hm => ?_)]; rfl
    rw [← t7] at hm
    obtain ⟨e, a1, a2⟩ := List.mem_map.mp hm
    exact e4 rfl e a1 a2
  | some e =>
    obtain ⟨a1, a2⟩ := e3 e rfl
    rw [decide_eq_true (by rw [← t7]; exact List.mem_map.mpr ⟨e, a1, a2⟩)]; rfl
theorem tm_size (l : Launch) (hl : l.stackTraces = false) (g : GE) (A : Nat → Prop) (h : AHT) (tm : Nat) (E F : List Nat) (ks : List Int32) (vs : List Nat) (hT : TM g h tm E F ks vs) :
    U_ l g A yJ1_size 1 0 0 [.ref tm] h (fun v h' => v = some (.int (nI ks.length)) ∧ h = h') noX := by
  have hlen := hT.len.1
  obtain ⟨ix, lo, hi, ka, va, lf, rt, pa, co, vl, root, md, kk, t1, t2, t3, t4, t5, t6, t7, t8, t9, t10, t11, t12, t13⟩ := hT
  have w := m_tmSize l hl g A E tm ka va lf rt pa co vl root E.length md h t3
  rw [t5, hlen] at w
  exact w

