/-! JDK: TreeMap, putting and removing, as the class uses them -/
set_option maxRecDepth 100000
theorem tmO_idem {E : List Nat} {tm : Nat} {ka va : Nat → Nat} {lf rt pa : Nat → Option Nat} {co : Nat → Bool} {vl root : Option Nat} {n : Nat} {md : Int32} {h : AHT} : tmO E tm ka va lf rt pa co vl root n md (tmO E tm ka va lf rt pa co vl root n md h) = tmO E tm ka va lf rt pa co vl root n md h := by
  funext x; unfold tmO; by_cases h1 : x ∈ E
  · rw [if_pos h1, if_pos h1]
  · by_cases h2 : x = tm
    · rw [if_neg h1, if_pos h2, if_neg h1, if_pos h2]
    · rw [if_neg h1, if_neg h2]
theorem tmO_o {E : List Nat} {tm : Nat} {ka va : Nat → Nat} {lf rt pa : Nat → Option Nat} {co : Nat → Bool} {vl root : Option Nat} {n : Nat} {md : Int32} {h : AHT} {x : Nat} (h1 : x ∉ E) (h2 : x ≠ tm) : tmO E tm ka va lf rt pa co vl root n md h x = h x := by
  unfold tmO; rw [if_neg h1, if_neg h2]
theorem tmO_cls {E : List Nat} {tm : Nat} {ka va : Nat → Nat} {lf rt pa : Nat → Option Nat} {co : Nat → Bool} {vl root : Option Nat} {n : Nat} {md : Int32} {h : AHT} (e : tmO E tm ka va lf rt pa co vl root n md h = h) (ht : tm ∉ E) {x k : Nat} {fs : List Value} (hx : h x = some (ob k fs)) (h1 : k ≠ 19) (h2 : k ≠ 10) : x ∉ E ∧ x ≠ tm := by
  constructor
  · intro z
    have h3 := (congrFun e x).symm.trans (tm_e z)
    rw [hx] at h3
    unfold ob at h3
    injection h3 with h3
    injection h3 with h3
    injection h3 with h3 _
    exact h1 h3
  · intro z
    subst z
    have h3 := (congrFun e x).symm.trans (tm_t ht)
    rw [hx] at h3
    unfold ob at h3
    injection h3 with h3
    injection h3 with h3
    injection h3 with h3 _
    exact h2 h3
theorem TM.nil {g : GE} {h : AHT} {tm : Nat} (ht : h tm = some (ob 10 [.null, .null, .null, .null, .int 0, .int 0, .null, .null, .null])) : TM g h tm [] [tm] [] [] := by
  refine ⟨fun _ => 0, fun _ => 0, fun _ => 0, fun _ => 0, fun _ => 0, fun _ => none, fun _ => none, fun _ => none, fun _ => true, none, none, 0, fun _ => 0, ?_, List.nodup_nil, List.not_mem_nil, fun r h => (by cases h), ?_, fun e he => absurd he List.not_mem_nil, rfl, rfl, List.Pairwise.nil, fun v h => (by cases h), List.mem_singleton.mpr rfl, fun e he => absurd he List.not_mem_nil, fun a ha => (by obtain rfl := List.mem_singleton.mp ha; exact ⟨_, ht⟩)⟩
  · unfold Inv; refine ⟨?_, ?_, ?_, ?_, ?_, ?_⟩ <;> simp
  · funext x
    by_cases e : x = tm
    · subst e; rw [tm_t List.not_mem_nil, ht]; rfl
    · exact tmO_o List.not_mem_nil e
theorem TM.cell {g : GE} {h : AHT} {tm : Nat} {E F : List Nat} {ks : List Int32} {vs : List Nat} (hT : TM g h tm E F ks vs) : ∃ (vl root : Option Nat) (md : Int32), h tm = some (ob 10 [.null, va_rf vl, .null, va_rf root, .int (nI E.length), .int md, .null, .null, .null]) ∧ ∀ v, vl = some v → h v = some (ob 14 [.ref tm]) ∧ v ∈ F := by
  obtain ⟨ix, lo, hi, ka, va, lf, rt, pa, co, vl, root, md, kk, t1, t2, t3, t4, t5, t6, t7, t8, t9, t10, t11, t12, t13⟩ := hT
  exact ⟨vl, root, md, (congrFun t5 tm).symm.trans (tm_t t3), t10⟩
theorem TM.nd {g : GE} {h : AHT} {tm : Nat} {E F : List Nat} {ks : List Int32} {vs : List Nat} (hT : TM g h tm E F ks vs) : E.Nodup := by
  obtain ⟨ix, lo, hi, ka, va, lf, rt, pa, co, vl, root, md, kk, t1, t2, -⟩ := hT
  exact t2
theorem TM.dom {g : GE} {h : AHT} {tm : Nat} {E F : List Nat} {ks : List Int32} {vs : List Nat} (hT : TM g h tm E F ks vs) : tm ∈ F ∧ (∀ e, e ∈ E → e ∈ F) ∧ ∀ a, a ∈ F → ∃ c, h a = some c := by
  obtain ⟨ix, lo, hi, ka, va, lf, rt, pa, co, vl, root, md, kk, t1, t2, t3, t4, t5, t6, t7, t8, t9, t10, t11, t12, t13⟩ := hT
  exact ⟨t11, t12, t13⟩
theorem TM.srt {g : GE} {h : AHT} {tm : Nat} {E F : List Nat} {ks : List Int32} {vs : List Nat} (hT : TM g h tm E F ks vs) : ks.Pairwise (· < ·) := by
  obtain ⟨ix, lo, hi, ka, va, lf, rt, pa, co, vl, root, md, kk, t1, t2, t3, t4, t5, t6, t7, t8, t9, -⟩ := hT
  exact t9
/-- the entry at the place i, and its value -/
theorem TM.ent {g : GE} {h : AHT} {tm : Nat} {E F : List Nat} {ks : List Int32} {vs : List Nat} (hT : TM g h tm E F ks vs) {i x : Nat} (hx : E[i]? = some x) : ∃ (k f : Nat) (o1 o2 o3 : Option Nat) (b : Bool), h x = some (ob 19 [.ref k, .ref f, va_rf o1, va_rf o2, va_rf o3, .int (b2 b)]) ∧ vs[i]? = some f := by
  obtain ⟨ix, lo, hi, ka, va, lf, rt, pa, co, vl, root, md, kk, t1, t2, t3, t4, t5, t6, t7, t8, t9, t10, t11, t12, t13⟩ := hT
  have hm := List.mem_of_getElem? hx
  exact ⟨ka x, va x, lf x, rt x, pa x, co x, (congrFun t5 x).symm.trans (tm_e hm), by rw [← t8, List.getElem?_map, hx]; rfl⟩
theorem tm_put (l : Launch) (hl : l.stackTraces = false) (g : GE) (A : Nat → Prop) (h : AHT) (tm : Nat) (E F : List Nat) (ks : List Int32) (vs : List Nat) (hT : TM g h tm E F ks vs) (kr vr : Nat) (k : Int32) (hk : isInt g h kr k) (hgt : ∀ k', k' ∈ ks → k' < k) :
    U_ l g A yJ1_put 7 1 6 [.ref tm, .ref kr, .ref vr] h (fun v h' => v = some .null ∧ ∃ (q : Nat) (F' : List Nat), h q = none ∧ TM g h' tm (E ++ [q]) F' (ks ++ [k]) (vs ++ [vr]) ∧ (∀ a, a ∈ F' → a ∈ F ∨ a = q ∨ (a = kr ∧ h kr = some (ob 18 [.int k]))) ∧ (∀ a, a ∈ F → a ∈ F') ∧ q ∈ F' ∧ Off F h h') noX := by
  obtain ⟨ix, lo, hi, ka, va, lf, rt, pa, co, vl, root, md, kk, t1, t2, t3, t4, t5, t6, t7, t8, t9, t10, t11, t12, t13⟩ := hT
  have hkk : ∀ e, e ∈ E → isInt g h (ka e) (kk e) := fun e he => (t6 e he).imp (fun z => z.1) id
  have w := m_put l hl g A E tm ka va lf rt pa co vl root E.length md h ix lo hi t1 t3 t4 rfl kk (by rw [t5]; exact hkk) kr vr k (by rw [t5]; exact hk) (fun e he => hgt _ (t7 ▸ List.mem_map.mpr ⟨e, he, rfl⟩))
  rw [t5] at w
  refine w.mono (fun v h' => ?_) (fun _ _ _ z => z)
  rintro ⟨e1, q, ix', lo', hi', lf', rt', pa', co', root', e2, e3, e4, e5⟩
  rw [← t5] at e2
  obtain ⟨q1, q2, q3⟩ := tm_out e2
  have ht' : tm ∉ E ++ [q] := by simp only [List.mem_append, List.mem_singleton, not_or]; exact ⟨t3, Ne.symm q2⟩
  have keep : ∀ a k fs, h a = some (ob k fs) → k ≠ 19 → k ≠ 10 → h' a = some (ob k fs) := fun a k fs ha h1 h2 => by
    obtain ⟨z1, z2⟩ := tmO_cls t5 t3 ha h1 h2
    rw [← e5, tmO_o (by simp only [List.mem_append, List.mem_singleton, not_or]; exact ⟨z1, ne_of ha q3⟩) z2]; exact ha
  have hoff : Off F h h' := fun a c ha hc => by
    rw [← e5, tmO_o (by simp only [List.mem_append, List.mem_singleton, not_or]; exact ⟨fun z => ha (t12 a z), ne_of hc q3⟩) (fun z : a = tm => ha (by rw [z]; exact t11))]; exact hc
  have hqc : ∃ c, h' q = some c := ⟨_, by rw [← e5]; exact tm_e (by simp)⟩
  have hupk : (E ++ [q]).map (va_up kk q k) = ks ++ [k] := by
    rw [List.map_append, ← t7]
    congr 1
    · exact List.map_congr_left (fun e he => va_up_ne _ _ (fun z => q1 (z ▸ he)))
    · simp [va_up]
  have hupv : (E ++ [q]).map (va_up va q vr) = vs ++ [vr] := by
    rw [List.map_append, ← t8]
    congr 1
    · exact List.map_congr_left (fun e he => va_up_ne _ _ (fun z => q1 (z ▸ he)))
    · simp [va_up]
  have hsrt : (ks ++ [k]).Pairwise (· < ·) := List.pairwise_append.mpr ⟨t9, List.pairwise_singleton _ _, fun a ha b hb => by rw [List.mem_singleton.mp hb]; exact hgt a ha⟩
  have hnd : (E ++ [q]).Nodup := List.nodup_append.mpr ⟨t2, (by simp), fun a ha b hb => by rw [List.mem_singleton.mp hb]; exact fun z => q1 (z ▸ ha)⟩
  have fin : ∀ F' : List Nat, (∀ a, a ∈ F → a ∈ F') → q ∈ F' → (∀ a, a ∈ F' → ∃ c, h' a = some c) → ((h' kr = some (ob 18 [.int k]) ∧ kr ∈ F') ∨ ∃ G, g.ro kr = some ("java/lang/Integer", G) ∧ ("java/lang/Integer", "value", "I", .int k) ∈ G) → TM g h' tm (E ++ [q]) F' (ks ++ [k]) (vs ++ [vr]) := fun F' f1 f2 f3 f4 => by
    refine ⟨ix', lo', hi', va_up ka q kr, va_up va q vr, lf', rt', pa', co', vl, root', md + 1, va_up kk q k, e3, hnd, ht', e4, ?_, fun e he => ?_, hupk, hupv, hsrt, fun v hv => ⟨keep v 14 _ (t10 v hv).1 (by decide) (by decide), f1 _ (t10 v hv).2⟩, f1 _ t11, fun e he => ?_, f3⟩
    · rw [List.length_append, List.length_singleton]; conv => lhs; rw [← e5]
      rw [tmO_idem]; exact e5
    · rcases List.mem_append.mp he with he | he
      · have hne : e ≠ q := fun z => q1 (z ▸ he)
        rw [va_up_ne _ _ hne, va_up_ne _ _ hne]
        exact (t6 e he).imp (fun z => ⟨keep _ 18 _ z.1 (by decide) (by decide), f1 _ z.2⟩) id
      · rw [List.mem_singleton.mp he, show va_up ka q kr q = kr from if_pos rfl, show va_up kk q k q = k from if_pos rfl]; exact f4
    · rcases List.mem_append.mp he with he | he
      · exact f1 _ (t12 e he)
      · rw [List.mem_singleton.mp he]; exact f2
  have hF : ∀ a, a ∈ F → ∃ c, h' a = some c := fun a ha => by
    obtain ⟨c, hc⟩ := t13 a ha
    by_cases z1 : a ∈ E
    · exact ⟨_, by rw [← e5]; exact tm_e (List.mem_append_left _ z1)⟩
    · by_cases z2 : a = tm
      · subst z2; exact ⟨_, by rw [← e5]; exact tm_t ht'⟩
      · exact ⟨c, by rw [← e5, tmO_o (by simp only [List.mem_append, List.mem_singleton, not_or]; exact ⟨z1, ne_of hc q3⟩) z2]; exact hc⟩
  rcases hk with hk | hk
  · refine ⟨e1, q, q :: kr :: F, q3, fin (q :: kr :: F) (fun a ha => List.mem_cons_of_mem _ (List.mem_cons_of_mem _ ha)) List.mem_cons_self (fun a ha => ?_) (Or.inl ⟨keep _ 18 _ hk (by decide) (by decide), List.mem_cons_of_mem _ List.mem_cons_self⟩), fun a ha => ?_, fun a ha => List.mem_cons_of_mem _ (List.mem_cons_of_mem _ ha), List.mem_cons_self, hoff⟩
    · rcases List.mem_cons.mp ha with rfl | ha
      · exact hqc
      · rcases List.mem_cons.mp ha with rfl | ha
        · exact ⟨_, keep _ 18 _ hk (by decide) (by decide)⟩
        · exact hF a ha
    · rcases List.mem_cons.mp ha with rfl | ha
      · exact Or.inr (Or.inl rfl)
      · rcases List.mem_cons.mp ha with rfl | ha
        · exact Or.inr (Or.inr ⟨rfl, hk⟩)
        · exact Or.inl ha
  · refine ⟨e1, q, q :: F, q3, fin (q :: F) (fun a ha => List.mem_cons_of_mem _ ha) List.mem_cons_self (fun a ha => ?_) (Or.inr hk), fun a ha => ?_, fun a ha => List.mem_cons_of_mem _ ha, List.mem_cons_self, hoff⟩
    · rcases List.mem_cons.mp ha with rfl | ha
      · exact hqc
      · exact hF a ha
    · rcases List.mem_cons.mp ha with rfl | ha
      · exact Or.inr (Or.inl rfl)
      · exact Or.inl ha
theorem tm_remove (l : Launch) (hl : l.stackTraces = false) (g : GE) (A : Nat → Prop) (h : AHT) (tm : Nat) (E F : List Nat) (ks : List Int32) (vs : List Nat) (hT : TM g h tm E F ks vs) (kr : Nat) (k : Int32) (hk : isInt g h kr k) (hin : k ∈ ks) :
    U_ l g A yJ1_remove 5 0 0 [.ref tm, .ref kr] h (fun v h' => ∃ (j f : Nat) (E' : List Nat), ks[j]? = some k ∧ vs[j]? = some f ∧ v = some (.ref f) ∧ TM g h' tm E' F (ks.eraseIdx j) (vs.eraseIdx j) ∧ Off F h h') noX := by
  obtain ⟨ix, lo, hi, ka, va, lf, rt, pa, co, vl, root, md, kk, t1, t2, t3, t4, t5, t6, t7, t8, t9, t10, t11, t12, t13⟩ := hT
  have hkk : ∀ e, e ∈ E → isInt g h (ka e) (kk e) := fun e he => (t6 e he).imp (fun z => z.1) id
  have w := m_remove0 l hl g A E tm ka va lf rt pa co vl root E.length md h ix lo hi t1 t2 t3 t4 rfl kk (by rw [t5]; exact hkk) (TM_sorted t1 (t7 ▸ t9)) kr k (by rw [t5]; exact hk) (by rw [← t7] at hin; obtain ⟨e, a1, a2⟩ := List.mem_map.mp hin; exact ⟨e, a1, a2⟩)
  rw [t5] at w
  refine w.mono (fun v h' => ?_) (fun _ _ _ z => z)
  rintro ⟨x, hx, hkx, e1, y, ce, ix', lo', hi', lf', rt', pa', co', root', hyE, hyx, e3, e4, e5⟩
  have hm := mem_del t1.1 t2 hyE
  have hyl : ix y < E.length := (List.getElem?_eq_some_iff.mp (t1.1 y hyE)).1
  have ht' : tm ∉ E.eraseIdx (ix y) := fun z => t3 ((hm tm).mp z).1
  have hty : tm ≠ y := fun z => t3 (z ▸ hyE)
  have keep : ∀ a k fs, h a = some (ob k fs) → k ≠ 19 → k ≠ 10 → h' a = some (ob k fs) := fun a k fs ha h1 h2 => by
    obtain ⟨z1, z2⟩ := tmO_cls t5 t3 ha h1 h2
    rw [← e5, tmO_o (fun z => z1 ((hm a).mp z).1) z2, up_n (fun z : a = y => z1 (by rw [z]; exact hyE))]; exact ha
  refine ⟨ix x, va x, E.eraseIdx (ix y), by rw [← t7, find_ix t1.1 kk hx, hkx], by rw [← t8, find_ix t1.1 va hx], e1, ⟨ix', lo', hi', va_up ka x (ka y), va_up va x (va y), lf', rt', pa', co', vl, root', md + 1, va_up kk x (kk y), e3, t2.sublist (List.eraseIdx_sublist _ _), ht', e4, ?_, fun e he => ?_, ?_, ?_, t9.sublist (List.eraseIdx_sublist _ _), fun v hv => ⟨keep v 14 _ (t10 v hv).1 (by decide) (by decide), (t10 v hv).2⟩, t11, fun e he => t12 e ((hm e).mp he).1, fun a ha => ?_⟩, fun a c ha hc => ?_⟩
  · rw [List.length_eraseIdx_of_lt hyl]
    have e6 := e5
    funext z
    by_cases z1 : z ∈ E.eraseIdx (ix y)
    · rw [tm_e z1, ← e5, tm_e z1]
    · by_cases z2 : z = tm
      · subst z2; rw [tm_t ht', ← e5, tm_t ht']
      · rw [tmO_o z1 z2]
  · have he2 := ((hm e).mp he).1
    by_cases z : e = x
    · rw [z, show va_up ka x (ka y) x = ka y from if_pos rfl, show va_up kk x (kk y) x = kk y from if_pos rfl]
      exact (t6 y hyE).imp (fun z => ⟨keep _ 18 _ z.1 (by decide) (by decide), z.2⟩) id
    · rw [va_up_ne _ _ z, va_up_ne _ _ z]
      exact (t6 e he2).imp (fun z => ⟨keep _ 18 _ z.1 (by decide) (by decide), z.2⟩) id
  · rw [← t7]; exact del_map t1.1 t2 hx hyE hyx kk _ (fun e he => rfl)
  · rw [← t8]; exact del_map t1.1 t2 hx hyE hyx va _ (fun e he => rfl)
  · obtain ⟨c, hc⟩ := t13 a ha
    by_cases z0 : a = y
    · exact ⟨ce, by rw [z0, ← e5, tmO_o (fun z => ((hm y).mp z).2 rfl) (Ne.symm hty)]; exact up_s⟩
    · by_cases z1 : a ∈ E
      · exact ⟨_, by rw [← e5]; exact tm_e ((hm a).mpr ⟨z1, z0⟩)⟩
      · by_cases z2 : a = tm
        · subst z2; exact ⟨_, by rw [← e5]; exact tm_t ht'⟩
        · exact ⟨c, by rw [← e5, tmO_o (fun z => z1 ((hm a).mp z).1) z2, up_n z0]; exact hc⟩
  · rw [← e5, tmO_o (fun z => ha (t12 a ((hm a).mp z).1)) (fun z : a = tm => ha (by rw [z]; exact t11)), up_n (fun z : a = y => ha (by rw [z]; exact t12 y hyE))]; exact hc

