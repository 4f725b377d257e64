/-! JDK: TreeMap, removing (2) -/
set_option maxRecDepth 100000
theorem V.join {α : Type} {g : GE} {A : Nat → Prop} {κ : MC} {L : Nat} {Q : State → Prop} {k0 n0 : Nat} {h0 : AHT} {pc0 : Nat} {lv0 : List (Nat × Value)} {st0 : List Value} {pc : Nat} (P : α → Prop) (K N : α → Nat) (H : α → AHT) (LV : α → List (Nat × Value)) (ST : α → List Value)
    (j : ∀ a, P a → V g A κ L Q (K a) (N a) (H a) pc (LV a) (ST a)) (rest : (∀ a, P a → V g A κ L Q (K a) (N a) (H a) pc (LV a) (ST a)) → V g A κ L Q k0 n0 h0 pc0 lv0 st0) : V g A κ L Q k0 n0 h0 pc0 lv0 st0 := rest j
theorem nd_ix {E : List Nat} (hn : E.Nodup) {i j e : Nat} (h1 : E[i]? = some e) (h2 : E[j]? = some e) : i = j := by
  obtain ⟨l1, e1⟩ := List.getElem?_eq_some_iff.mp h1
  obtain ⟨l2, e2⟩ := List.getElem?_eq_some_iff.mp h2
  rcases Nat.lt_trichotomy i j with z | z | z
  · exact absurd (e1.trans e2.symm) (List.pairwise_iff_getElem.mp hn i j l1 l2 z)
  · exact z
  · exact absurd (e2.trans e1.symm) (List.pairwise_iff_getElem.mp hn j i l2 l1 z)
theorem mem_del {E : List Nat} {ix : Nat → Nat} (h0 : ∀ e, e ∈ E → E[ix e]? = some e) (hn : E.Nodup) {y : Nat} (hy : y ∈ E) (e : Nat) : e ∈ E.eraseIdx (ix y) ↔ e ∈ E ∧ e ≠ y := by
  rw [List.mem_eraseIdx_iff_getElem?]
  constructor
  · rintro ⟨i, h1, h2⟩
    exact ⟨List.mem_of_getElem? h2, fun e1 => h1 (nd_ix hn h2 (e1 ▸ h0 y hy))⟩
  · rintro ⟨h1, h2⟩
    refine ⟨ix e, fun e1 => h2 ?_, h0 e h1⟩
    have h3 := h0 e h1
    rw [e1, h0 y hy] at h3
    exact (Option.some.inj h3).symm
set_option maxHeartbeats 4000000 in
theorem Inv.del {E : List Nat} {ix lo hi : Nat → Nat} {lf rt pa : Nat → Option Nat} {root : Option Nat} (h : Inv E ix lo hi lf rt pa root) (hn : E.Nodup) {y : Nat} {c : Option Nat} (hy : y ∈ E) (hc : (lf y = none ∧ rt y = c) ∨ (rt y = none ∧ lf y = c)) {lf' rt' pa' : Nat → Option Nat} {root' : Option Nat}
    (hl : ∀ e, e ∈ E → e ≠ y → lf' e = if lf e = some y then c else lf e) (hr : ∀ e, e ∈ E → e ≠ y → rt' e = if rt e = some y then c else rt e) (hp : ∀ e, e ∈ E → e ≠ y → pa' e = if c = some e then pa y else pa e) (ho : root' = if root = some y then c else root) :
    Inv (E.eraseIdx (ix y)) (fun e => if ix y < ix e then ix e - 1 else ix e) (fun e => if ix y < lo e then lo e - 1 else lo e) (fun e => if ix y < hi e then hi e - 1 else hi e) lf' rt' pa' root' := by
  have hm := mem_del h.1 hn hy
  have hinj := fun a b => @Inv.inj E ix lo hi lf rt pa root h a b
  have hyl : ix y < E.length := (List.getElem?_eq_some_iff.mp (h.1 y hy)).1
  have hlen : (E.eraseIdx (ix y)).length = E.length - 1 := List.length_eraseIdx_of_lt hyl
  have hg : ∀ i, (E.eraseIdx (ix y))[i]? = if i < ix y then E[i]? else E[i + 1]? := fun i => List.getElem?_eraseIdx ..
  obtain ⟨h0, h1, h2, h3, h4, h5⟩ := h
  unfold Inv
  simp only [hlen, hm]
  subst ho
  refine ⟨?_, ?_, ?_, ?_, ?_, ?_⟩
  · intro e ⟨he, hne⟩
    rw [hg]
    have hne2 : ix e ≠ ix y := fun z => hne (hinj e y he hy z)
    by_cases z : ix y < ix e
    · rw [if_pos z, if_neg (by omega), show ix e - 1 + 1 = ix e by omega]; exact h0 e he
    · rw [if_neg z, if_pos (by omega)]; exact h0 e he
  · rintro e ⟨he, hne⟩
    have a1 := h1 y hy
    have a2 := h1 e he
    have hne2 : ix e ≠ ix y := fun z => hne (hinj e y he hy z)
    refine ⟨?_, ?_, ?_⟩ <;> split <;> (try split) <;> omega
  · rintro e ⟨he, hne⟩
    have a6 := hl e he hne
    have a1 := h1 y hy
    have a9 := h1 e he
    have hne2 : ix e ≠ ix y := fun z => hne (hinj e y he hy z)
    by_cases z : lf e = some y
    · rw [if_pos z] at a6; rw [a6]
      have a8 := (h2 e he).2 y z
      refine ⟨fun hcn => ?_, fun l hcl => ?_⟩
      · have b1 := (h2 y hy).1 (by rcases hc with ⟨c1, c2⟩ | ⟨c1, c2⟩ <;> simp_all)
        have b2 := (h3 y hy).1 (by rcases hc with ⟨c1, c2⟩ | ⟨c1, c2⟩ <;> simp_all)
        grind
      · rcases hc with ⟨c1, c2⟩ | ⟨c1, c2⟩
        · have b1 := (h2 y hy).1 c1
          have b3 := (h3 y hy).2 l (c2.trans hcl)
          have b4 := h1 l b3.1
          have hly : l ≠ y := fun e => by subst e; omega
          refine ⟨⟨b3.1, hly⟩, ?_, ?_, ?_⟩
          · rw [hp l b3.1 hly, if_pos hcl]; exact a8.2.1
          · split <;> split <;> omega
          · split <;> split <;> omega
        · have b1 := (h3 y hy).1 c1
          have b3 := (h2 y hy).2 l (c2.trans hcl)
          have b4 := h1 l b3.1
          have hly : l ≠ y := fun e => by subst e; omega
          refine ⟨⟨b3.1, hly⟩, ?_, ?_, ?_⟩
          · rw [hp l b3.1 hly, if_pos hcl]; exact a8.2.1
          · split <;> split <;> omega
          · split <;> split <;> omega
    · rw [if_neg z] at a6; rw [a6]
      refine ⟨fun hn' => ?_, fun l hll => ?_⟩
      · have b2 := (h2 e he).1 hn'
        split <;> split <;> omega
      · have b3 := (h2 e he).2 l hll
        have hly : l ≠ y := fun e => z (e ▸ hll)
        refine ⟨⟨b3.1, hly⟩, ?_, ?_, ?_⟩
        · rw [hp l b3.1 hly, if_neg (fun hcl => hne ?_)]
          · exact b3.2.1
          · rcases hc with ⟨c1, c2⟩ | ⟨c1, c2⟩
            · have := ((h3 y hy).2 l (c2.trans hcl)).2.1; rw [b3.2.1] at this; exact Option.some.inj this
            · have := ((h2 y hy).2 l (c2.trans hcl)).2.1; rw [b3.2.1] at this; exact Option.some.inj this
        · split <;> split <;> omega
        · split <;> split <;> omega
  · rintro e ⟨he, hne⟩
    have a6 := hr e he hne
    have a1 := h1 y hy
    have a9 := h1 e he
    have hne2 : ix e ≠ ix y := fun z => hne (hinj e y he hy z)
    by_cases z : rt e = some y
    · rw [if_pos z] at a6; rw [a6]
      have a8 := (h3 e he).2 y z
      refine ⟨fun hcn => ?_, fun l hcl => ?_⟩
      · have b1 := (h3 y hy).1 (by rcases hc with ⟨c1, c2⟩ | ⟨c1, c2⟩ <;> simp_all)
        have b2 := (h2 y hy).1 (by rcases hc with ⟨c1, c2⟩ | ⟨c1, c2⟩ <;> simp_all)
        grind
      · rcases hc with ⟨c1, c2⟩ | ⟨c1, c2⟩
        · have b1 := (h2 y hy).1 c1
          have b3 := (h3 y hy).2 l (c2.trans hcl)
          have b4 := h1 l b3.1
          have hly : l ≠ y := fun e => by subst e; omega
          refine ⟨⟨b3.1, hly⟩, ?_, ?_, ?_⟩
          · rw [hp l b3.1 hly, if_pos hcl]; exact a8.2.1
          · split <;> split <;> omega
          · split <;> split <;> omega
        · have b1 := (h3 y hy).1 c1
          have b3 := (h2 y hy).2 l (c2.trans hcl)
          have b4 := h1 l b3.1
          have hly : l ≠ y := fun e => by subst e; omega
          refine ⟨⟨b3.1, hly⟩, ?_, ?_, ?_⟩
          · rw [hp l b3.1 hly, if_pos hcl]; exact a8.2.1
          · split <;> split <;> omega
          · split <;> split <;> omega
    · rw [if_neg z] at a6; rw [a6]
      refine ⟨fun hn' => ?_, fun l hll => ?_⟩
      · have b2 := (h3 e he).1 hn'
        split <;> split <;> omega
      · have b3 := (h3 e he).2 l hll
        have hly : l ≠ y := fun e => z (e ▸ hll)
        refine ⟨⟨b3.1, hly⟩, ?_, ?_, ?_⟩
        · rw [hp l b3.1 hly, if_neg (fun hcl => hne ?_)]
          · exact b3.2.1
          · rcases hc with ⟨c1, c2⟩ | ⟨c1, c2⟩
            · have := ((h3 y hy).2 l (c2.trans hcl)).2.1; rw [b3.2.1] at this; exact Option.some.inj this
            · have := ((h2 y hy).2 l (c2.trans hcl)).2.1; rw [b3.2.1] at this; exact Option.some.inj this
        · split <;> split <;> omega
        · split <;> split <;> omega
  · rintro e ⟨he, hne⟩
    have a6 := hp e he hne
    have a1 := h1 y hy
    have nyy : pa y ≠ some y := fun z => by
      rcases ((h4 y hy).2 y z).2 with z | z
      · have := (h2 y hy).2 y z; omega
      · have := (h3 y hy).2 y z; omega
    by_cases z : c = some e
    · rw [if_pos z] at a6; rw [a6]
      refine ⟨fun hpn => ?_, fun p hpp => ?_⟩
      · rw [if_pos ((h4 y hy).1 hpn)]; exact z
      · have b := (h4 y hy).2 p hpp
        have hpy : p ≠ y := fun e => nyy (e ▸ hpp)
        refine ⟨⟨b.1, hpy⟩, ?_⟩
        rcases b.2 with b2 | b2
        · exact Or.inl (by rw [hl p b.1 hpy, if_pos b2]; exact z)
        · exact Or.inr (by rw [hr p b.1 hpy, if_pos b2]; exact z)
    · rw [if_neg z] at a6; rw [a6]
      refine ⟨fun hpn => ?_, fun p hpp => ?_⟩
      · have b := (h4 e he).1 hpn
        rw [if_neg (fun z2 => hne (Option.some.inj (b.symm.trans z2)))]; exact b
      · have b := (h4 e he).2 p hpp
        have hpy : p ≠ y := fun e1 => by
          subst e1
          rcases hc with ⟨c1, c2⟩ | ⟨c1, c2⟩ <;> rcases b.2 with b2 | b2 <;> simp_all
        refine ⟨⟨b.1, hpy⟩, ?_⟩
        rcases b.2 with b2 | b2
        · exact Or.inl (by rw [hl p b.1 hpy, if_neg (fun z2 => hne (Option.some.inj (b2.symm.trans z2)))]; exact b2)
        · exact Or.inr (by rw [hr p b.1 hpy, if_neg (fun z2 => hne (Option.some.inj (b2.symm.trans z2)))]; exact b2)
  · have a1 := h1 y hy
    have nyy : pa y ≠ some y := fun z => by
      rcases ((h4 y hy).2 y z).2 with z | z
      · have := (h2 y hy).2 y z; omega
      · have := (h3 y hy).2 y z; omega
    by_cases z : root = some y
    · rw [if_pos z]
      have b := h5.2 y z
      refine ⟨fun hcn => ?_, fun r hcr => ?_⟩
      · have b1 := (h2 y hy).1 (by rcases hc with ⟨c1, c2⟩ | ⟨c1, c2⟩ <;> simp_all)
        have b2 := (h3 y hy).1 (by rcases hc with ⟨c1, c2⟩ | ⟨c1, c2⟩ <;> simp_all)
        omega
      · rcases hc with ⟨c1, c2⟩ | ⟨c1, c2⟩
        · have b1 := (h2 y hy).1 c1
          have b3 := (h3 y hy).2 r (c2.trans hcr)
          have b4 := h1 r b3.1
          have hly : r ≠ y := fun e => by subst e; omega
          refine ⟨⟨b3.1, hly⟩, ?_, ?_, ?_⟩
          · rw [hp r b3.1 hly, if_pos hcr]; exact b.2.1
          · split <;> omega
          · split <;> omega
        · have b1 := (h3 y hy).1 c1
          have b3 := (h2 y hy).2 r (c2.trans hcr)
          have b4 := h1 r b3.1
          have hly : r ≠ y := fun e => by subst e; omega
          refine ⟨⟨b3.1, hly⟩, ?_, ?_, ?_⟩
          · rw [hp r b3.1 hly, if_pos hcr]; exact b.2.1
          · split <;> omega
          · split <;> omega
    · rw [if_neg z]
      refine ⟨fun hcn => by have := h5.1 hcn; omega, fun r hcr => ?_⟩
      have b := h5.2 r hcr
      have hly : r ≠ y := fun e => z (e ▸ hcr)
      refine ⟨⟨b.1, hly⟩, ?_, ?_, ?_⟩
      · rw [hp r b.1 hly, if_neg (fun hcl => ?_)]
        · exact b.2.1
        · rcases hc with ⟨c1, c2⟩ | ⟨c1, c2⟩
          · have := ((h3 y hy).2 r (c2.trans hcl)).2.1; rw [b.2.1] at this; cases this
          · have := ((h2 y hy).2 r (c2.trans hcl)).2.1; rw [b.2.1] at this; cases this
      · split <;> omega
      · split <;> omega
theorem tm_del {E : List Nat} {tm : Nat} {ka va : Nat → Nat} {lf rt pa : Nat → Option Nat} {co : Nat → Bool} {vl root : Option Nat} {n : Nat} {md : Int32} {h0 : AHT} {ix : Nat → Nat} (hi : ∀ e, e ∈ E → E[ix e]? = some e) (hn : E.Nodup) {y : Nat} (hy : y ∈ E) (ht : tm ∉ E) :
    tmO E tm ka va lf rt pa co vl root n md h0 = tmO (E.eraseIdx (ix y)) tm ka va lf rt pa co vl root n md (up h0 y (ob 19 [.ref (ka y), .ref (va y), va_rf (lf y), va_rf (rt y), va_rf (pa y), .int (b2 (co y))])) := by
  have hm := mem_del hi hn hy
  funext x
  unfold tmO up
  simp only [hm]
  by_cases h1 : x = y
  · subst h1
    rw [if_pos hy, if_neg (fun e => e.2 rfl), if_neg (fun e : x = tm => ht (e ▸ hy)), if_pos rfl]
  · simp [h1]

abbrev cJ1_successor : ByteArray := prog_68_method_74_code
def yJ1_successor : MethodName := ⟨RJ1, "successor", "(Ljava/util/TreeMap$Entry;)Ljava/util/TreeMap$Entry;"⟩
def dkwJ1_successor_2 : List UInt8 := [44, 43, 180, 0, 114, 166, 0, 13, 43, 77, 43, 180, 0, 124, 76, 167, 255, 237, 43, 176]
abbrev dktJ1_successor_2 : List UInt8 := dkwJ1_successor_2 ++ []
def dkwJ1_successor_1 : List UInt8 := [198, 0, 11, 43, 180, 0, 111, 76, 167, 255, 244, 43, 176, 42, 180, 0, 124, 76, 42, 77, 43, 198, 0, 21]
abbrev dktJ1_successor_1 : List UInt8 := dkwJ1_successor_1 ++ dktJ1_successor_2
def dkwJ1_successor_0 : List UInt8 := [42, 199, 0, 5, 1, 176, 42, 180, 0, 114, 198, 0, 25, 42, 180, 0, 114, 76, 43, 180, 0, 111]
abbrev dktJ1_successor_0 : List UInt8 := dkwJ1_successor_0 ++ dktJ1_successor_1
theorem dksJ1_successor_0 : cJ1_successor.data.toList.drop 0 = dktJ1_successor_0 := by decide +kernel
theorem dksJ1_successor_1 : cJ1_successor.data.toList.drop 22 = dktJ1_successor_1 := dk_seg dksJ1_successor_0 22 rfl rfl
theorem dksJ1_successor_2 : cJ1_successor.data.toList.drop 46 = dktJ1_successor_2 := dk_seg dksJ1_successor_1 24 rfl rfl
theorem dJ1_successor_0 : decode cJ1_successor 0 = .ok (.aload_n 0, 1) := dk_42 (dk_at dksJ1_successor_0 0 rfl rfl)
theorem dJ1_successor_1 : decode cJ1_successor 1 = .ok (.ifnonnull 5, 3) := dk_199 0 5 (dk_at dksJ1_successor_0 1 rfl rfl)
theorem dJ1_successor_4 : decode cJ1_successor 4 = .ok (.aconst_null, 1) := dk_1 (dk_at dksJ1_successor_0 4 rfl rfl)
theorem dJ1_successor_5 : decode cJ1_successor 5 = .ok (.areturn, 1) := dk_176 (dk_at dksJ1_successor_0 5 rfl rfl)
theorem dJ1_successor_6 : decode cJ1_successor 6 = .ok (.aload_n 0, 1) := dk_42 (dk_at dksJ1_successor_0 6 rfl rfl)
theorem dJ1_successor_7 : decode cJ1_successor 7 = .ok (.getfield 114, 3) := dk_180 0 114 (dk_at dksJ1_successor_0 7 rfl rfl)
theorem dJ1_successor_10 : decode cJ1_successor 10 = .ok (.ifnull 25, 3) := dk_198 0 25 (dk_at dksJ1_successor_0 10 rfl rfl)
theorem dJ1_successor_13 : decode cJ1_successor 13 = .ok (.aload_n 0, 1) := dk_42 (dk_at dksJ1_successor_0 13 rfl rfl)
theorem dJ1_successor_14 : decode cJ1_successor 14 = .ok (.getfield 114, 3) := dk_180 0 114 (dk_at dksJ1_successor_0 14 rfl rfl)
theorem dJ1_successor_17 : decode cJ1_successor 17 = .ok (.astore_n 1, 1) := dk_76 (dk_at dksJ1_successor_0 17 rfl rfl)
theorem dJ1_successor_18 : decode cJ1_successor 18 = .ok (.aload_n 1, 1) := dk_43 (dk_at dksJ1_successor_0 18 rfl rfl)
theorem dJ1_successor_19 : decode cJ1_successor 19 = .ok (.getfield 111, 3) := dk_180 0 111 (dk_at dksJ1_successor_0 19 rfl rfl)
theorem dJ1_successor_22 : decode cJ1_successor 22 = .ok (.ifnull 11, 3) := dk_198 0 11 (dk_at dksJ1_successor_1 0 rfl rfl)
theorem dJ1_successor_25 : decode cJ1_successor 25 = .ok (.aload_n 1, 1) := dk_43 (dk_at dksJ1_successor_1 3 rfl rfl)
theorem dJ1_successor_26 : decode cJ1_successor 26 = .ok (.getfield 111, 3) := dk_180 0 111 (dk_at dksJ1_successor_1 4 rfl rfl)
theorem dJ1_successor_29 : decode cJ1_successor 29 = .ok (.astore_n 1, 1) := dk_76 (dk_at dksJ1_successor_1 7 rfl rfl)
theorem dJ1_successor_30 : decode cJ1_successor 30 = .ok (.goto (-12), 3) := dk_167 255 244 (dk_at dksJ1_successor_1 8 rfl rfl)
theorem dJ1_successor_33 : decode cJ1_successor 33 = .ok (.aload_n 1, 1) := dk_43 (dk_at dksJ1_successor_1 11 rfl rfl)
theorem dJ1_successor_34 : decode cJ1_successor 34 = .ok (.areturn, 1) := dk_176 (dk_at dksJ1_successor_1 12 rfl rfl)
theorem dJ1_successor_35 : decode cJ1_successor 35 = .ok (.aload_n 0, 1) := dk_42 (dk_at dksJ1_successor_1 13 rfl rfl)
theorem dJ1_successor_36 : decode cJ1_successor 36 = .ok (.getfield 124, 3) := dk_180 0 124 (dk_at dksJ1_successor_1 14 rfl rfl)
theorem dJ1_successor_39 : decode cJ1_successor 39 = .ok (.astore_n 1, 1) := dk_76 (dk_at dksJ1_successor_1 17 rfl rfl)
theorem dJ1_successor_40 : decode cJ1_successor 40 = .ok (.aload_n 0, 1) := dk_42 (dk_at dksJ1_successor_1 18 rfl rfl)
theorem dJ1_successor_41 : decode cJ1_successor 41 = .ok (.astore_n 2, 1) := dk_77 (dk_at dksJ1_successor_1 19 rfl rfl)
theorem dJ1_successor_42 : decode cJ1_successor 42 = .ok (.aload_n 1, 1) := dk_43 (dk_at dksJ1_successor_1 20 rfl rfl)
theorem dJ1_successor_43 : decode cJ1_successor 43 = .ok (.ifnull 21, 3) := dk_198 0 21 (dk_at dksJ1_successor_1 21 rfl rfl)
theorem dJ1_successor_46 : decode cJ1_successor 46 = .ok (.aload_n 2, 1) := dk_44 (dk_at dksJ1_successor_2 0 rfl rfl)
theorem dJ1_successor_47 : decode cJ1_successor 47 = .ok (.aload_n 1, 1) := dk_43 (dk_at dksJ1_successor_2 1 rfl rfl)
theorem dJ1_successor_48 : decode cJ1_successor 48 = .ok (.getfield 114, 3) := dk_180 0 114 (dk_at dksJ1_successor_2 2 rfl rfl)
theorem dJ1_successor_51 : decode cJ1_successor 51 = .ok (.if_acmp .ne 13, 3) := dk_166 0 13 (dk_at dksJ1_successor_2 5 rfl rfl)
theorem dJ1_successor_54 : decode cJ1_successor 54 = .ok (.aload_n 1, 1) := dk_43 (dk_at dksJ1_successor_2 8 rfl rfl)
theorem dJ1_successor_55 : decode cJ1_successor 55 = .ok (.astore_n 2, 1) := dk_77 (dk_at dksJ1_successor_2 9 rfl rfl)
theorem dJ1_successor_56 : decode cJ1_successor 56 = .ok (.aload_n 1, 1) := dk_43 (dk_at dksJ1_successor_2 10 rfl rfl)
theorem dJ1_successor_57 : decode cJ1_successor 57 = .ok (.getfield 124, 3) := dk_180 0 124 (dk_at dksJ1_successor_2 11 rfl rfl)
theorem dJ1_successor_60 : decode cJ1_successor 60 = .ok (.astore_n 1, 1) := dk_76 (dk_at dksJ1_successor_2 14 rfl rfl)
theorem dJ1_successor_61 : decode cJ1_successor 61 = .ok (.goto (-19), 3) := dk_167 255 237 (dk_at dksJ1_successor_2 15 rfl rfl)
theorem dJ1_successor_64 : decode cJ1_successor 64 = .ok (.aload_n 1, 1) := dk_43 (dk_at dksJ1_successor_2 18 rfl rfl)
theorem dJ1_successor_65 : decode cJ1_successor 65 = .ok (.areturn, 1) := dk_176 (dk_at dksJ1_successor_2 19 rfl rfl)
set_option maxHeartbeats 4000000 in
theorem m_succ (l : Launch) (hl : l.stackTraces = false) (g : GE) (A : Nat → Prop) (E : List Nat) (tm : Nat) (ka va : Nat → Nat) (lf rt pa : Nat → Option Nat) (co : Nat → Bool) (vl root : Option Nat) (n : Nat) (md : Int32) (h0 : AHT) (ix lo hi : Nat → Nat) (hI : Inv E ix lo hi lf rt pa root) (x : Nat) (hx : x ∈ E) : U_ l g A yJ1_successor 1 0 0 [.ref x] (tmO E tm ka va lf rt pa co vl root n md h0) (fun v h' => v = some (va_rf E[ix x + 1]?) ∧ (∀ s, E[ix x + 1]? = some s → ix s = ix x + 1 ∧ (rt x ≠ none → lf s = none)) ∧ (tmO E tm ka va lf rt pa co vl root n md h0) = h') noX := by
  refine U_.of (own := RJ1) (cc := cJ1_successor) (L := 3) (ret := (some (Jvm.ClassFile.FieldType.object "java/util/TreeMap$Entry"))) hl rfl (plainFor_of_name (by decide)) ⟨by decide, by decide⟩ q556 q85 (by decide) (fun e => absurd e (by decide)) (Nat.le_of_ble_eq_true rfl) (fun κ cx => ?_)
  show V g A κ _ _ 0 0 (tmO E tm ka va lf rt pa co vl root n md h0) 0 [(0, .ref x)] []
  have hI2 := hI
  obtain ⟨i0, i1, i2, i3, i4, i5⟩ := hI
  refine V.aload_n cx dJ1_successor_0 rfl 0 rfl ?_
  refine V.ifnonnull (tgt := 6) cx dJ1_successor_1 (by decide) ?_
  rcases opt_c (rt x) with hr | ⟨r, hr⟩
  · refine V.aload_n cx dJ1_successor_6 rfl 0 rfl ?_
    refine V.get cx kJ25 (tm_e hx) 3 (by decide) q1028 rfl rfl dJ1_successor_7 ?_
    refine V.toq (o' := none) (by rw [hr]) ?_
    show V g A κ _ _ 0 0 (tmO E tm ka va lf rt pa co vl root n md h0) 10 [(0, .ref x)] [.null]
    refine V.ifnullN (tgt := 35) cx dJ1_successor_10 (by decide) ?_
    refine V.aload_n cx dJ1_successor_35 rfl 0 rfl ?_
    refine V.get cx kJ25 (tm_e hx) 4 (by decide) q1030 rfl rfl dJ1_successor_36 ?_
    show V g A κ _ _ 0 0 (tmO E tm ka va lf rt pa co vl root n md h0) 39 [(0, .ref x)] [va_rf (pa x)]
    refine V.astore_nq (lv' := [(1, va_rf (pa x)), (0, .ref x)]) cx dJ1_successor_39 rfl (by decide) rfl ?_
    refine V.aload_n cx dJ1_successor_40 rfl 1 rfl ?_
    refine V.astore_n (lv' := [(2, .ref x), (1, va_rf (pa x)), (0, .ref x)]) cx dJ1_successor_41 rfl (by decide) (by simp [va_rf_cat]) ?_
    refine V.sub [2, 1, 0] rfl ?_
    refine V.loop (α := (Nat)) (fun z9_ => E.length - (hi (z9_) - lo (z9_))) (fun z9_ => (z9_) ∈ E ∧ hi (z9_) = ix x + 1) (fun z9_ => 0) (fun z9_ => 0) (fun z9_ => (tmO E tm ka va lf rt pa co vl root n md h0)) (fun z9_ => [(0, .ref x), (1, va_rf (pa (z9_))), (2, .ref (z9_))]) (fun z9_ => []) (fun c_ hP_ ih_ => ?_) x ⟨hx, (i3 x hx).1 hr⟩
    obtain ⟨hc, hh⟩ := hP_
    show V g A κ _ _ 0 0 (tmO E tm ka va lf rt pa co vl root n md h0) 42 [(0, .ref x), (1, va_rf (pa c_)), (2, .ref c_)] []
    rcases opt_c (pa c_) with hp | ⟨q, hp⟩
    · refine V.sub [0, 1, 2] (lv' := [(0, .ref x), (1, .null), (2, .ref c_)]) (by rw [hp]; rfl) ?_
      show V g A κ _ _ 0 0 (tmO E tm ka va lf rt pa co vl root n md h0) 42 [(0, .ref x), (1, .null), (2, .ref c_)] []
      refine V.aload_nN cx dJ1_successor_42 rfl 1 rfl ?_
      refine V.ifnullN (tgt := 64) cx dJ1_successor_43 (by decide) ?_
      refine V.aload_nN cx dJ1_successor_64 rfl 1 rfl ?_
      have hn : E[ix x + 1]? = none := by have h1 := (i5.2 c_ ((i4 c_ hc).1 hp)).2.2.2; exact List.getElem?_eq_none (by omega)
      have hq : (.null : Value) = va_rf E[ix x + 1]? := by rw [hn]; rfl
      exact V.areturnN cx rfl (Or.inl ⟨_, rfl⟩) ⟨by rw [hq], fun s hs => absurd (hn.symm.trans hs) (by intro e; cases e), rfl⟩ (by decide) (by decide) dJ1_successor_65
    · refine V.sub [0, 1, 2] (lv' := [(0, .ref x), (1, .ref q), (2, .ref c_)]) (by rw [hp]; rfl) ?_
      show V g A κ _ _ 0 0 (tmO E tm ka va lf rt pa co vl root n md h0) 42 [(0, .ref x), (1, .ref q), (2, .ref c_)] []
      have hqE := ((i4 c_ hc).2 q hp).1
      refine V.aload_n cx dJ1_successor_42 rfl 1 rfl ?_
      refine V.ifnull cx dJ1_successor_43 ?_
      refine V.aload_n cx dJ1_successor_46 rfl 2 rfl ?_
      refine V.aload_n cx dJ1_successor_47 rfl 1 rfl ?_
      refine V.get cx kJ25 (tm_e hqE) 3 (by decide) q1028 rfl rfl dJ1_successor_48 ?_
      show V g A κ _ _ 0 0 (tmO E tm ka va lf rt pa co vl root n md h0) 51 [(0, .ref x), (1, .ref q), (2, .ref c_)] [va_rf (rt q), .ref c_]
      refine V.acmp_ne (rx := (some c_)) (ry := (rt q)) (tgt := 64) cx dJ1_successor_51 (by decide) (fun cq => ?_) (fun cq => ?_)
      · have hl : lf q = some c_ := by rcases ((i4 c_ hc).2 q hp).2 with z | z; exact z; exact absurd z.symm cq
        have hq9 : ix q = ix x + 1 := by have h1 := ((i2 q hqE).2 c_ hl).2.2.2; omega
        have hs9 : E[ix x + 1]? = some q := by rw [← hq9]; exact i0 q hqE
        refine V.aload_n cx dJ1_successor_64 rfl 1 rfl ?_
        have hq : (.ref q : Value) = va_rf E[ix x + 1]? := by rw [hs9]; rfl
        exact V.areturn cx rfl (Or.inl ⟨_, rfl⟩) ⟨by rw [hq], fun s hs => ⟨(Option.some.inj (hs9.symm.trans hs)) ▸ hq9, fun e => absurd hr e⟩, rfl⟩ (by decide) (by decide) dJ1_successor_65
      · refine V.aload_n cx dJ1_successor_54 rfl 1 rfl ?_
        refine V.astore_n (lv' := [(2, .ref q), (0, .ref x), (1, .ref q)]) cx dJ1_successor_55 rfl (by decide) rfl ?_
        refine V.aload_n cx dJ1_successor_56 rfl 2 rfl ?_
        refine V.get cx kJ25 (tm_e hqE) 4 (by decide) q1030 rfl rfl dJ1_successor_57 ?_
        show V g A κ _ _ 0 0 (tmO E tm ka va lf rt pa co vl root n md h0) 60 [(2, .ref q), (0, .ref x), (1, .ref q)] [va_rf (pa q)]
        refine V.astore_nq (lv' := [(1, va_rf (pa q)), (2, .ref q), (0, .ref x)]) cx dJ1_successor_60 rfl (by decide) rfl ?_
        refine V.goto (tgt := 42) cx dJ1_successor_61 (by decide) ?_
        have h3 := (i3 q hqE).2 c_ cq.symm
        have h4 := i1 q hqE
        have h5 := i1 c_ hc
        refine V.sub [2, 0, 1] rfl ?_
        exact ih_ q (by omega) ⟨hqE, by omega⟩
  · have h1 := (i3 x hx).2 r hr
    refine V.aload_n cx dJ1_successor_6 rfl 0 rfl ?_
    refine V.get cx kJ25 (tm_e hx) 3 (by decide) q1028 rfl rfl dJ1_successor_7 ?_
    refine V.toq (o' := (some r)) (by rw [hr]) ?_
    show V g A κ _ _ 0 0 (tmO E tm ka va lf rt pa co vl root n md h0) 10 [(0, .ref x)] [.ref r]
    refine V.ifnull cx dJ1_successor_10 ?_
    refine V.aload_n cx dJ1_successor_13 rfl 0 rfl ?_
    refine V.get cx kJ25 (tm_e hx) 3 (by decide) q1028 rfl rfl dJ1_successor_14 ?_
    refine V.toq (o' := (some r)) (by rw [hr]) ?_
    show V g A κ _ _ 0 0 (tmO E tm ka va lf rt pa co vl root n md h0) 17 [(0, .ref x)] [.ref r]
    refine V.astore_n (lv' := [(1, .ref r), (0, .ref x)]) cx dJ1_successor_17 rfl (by decide) rfl ?_
    refine V.sub [1, 0] rfl ?_
    refine V.loop (α := (Nat)) (fun z9_ => hi (z9_) - lo (z9_)) (fun z9_ => (z9_) ∈ E ∧ lo (z9_) = ix x + 1) (fun z9_ => 0) (fun z9_ => 0) (fun z9_ => (tmO E tm ka va lf rt pa co vl root n md h0)) (fun z9_ => [(0, .ref x), (1, .ref (z9_))]) (fun z9_ => []) (fun c_ hP_ ih_ => ?_) r ⟨h1.1, h1.2.2.1⟩
    obtain ⟨hc, hh⟩ := hP_
    show V g A κ _ _ 0 0 (tmO E tm ka va lf rt pa co vl root n md h0) 18 [(0, .ref x), (1, .ref c_)] []
    rcases opt_c (lf c_) with hp | ⟨q, hp⟩
    · refine V.aload_n cx dJ1_successor_18 rfl 1 rfl ?_
      refine V.get cx kJ25 (tm_e hc) 2 (by decide) q1027 rfl rfl dJ1_successor_19 ?_
      refine V.toq (o' := none) (by rw [hp]) ?_
      show V g A κ _ _ 0 0 (tmO E tm ka va lf rt pa co vl root n md h0) 22 [(0, .ref x), (1, .ref c_)] [.null]
      refine V.ifnullN (tgt := 33) cx dJ1_successor_22 (by decide) ?_
      refine V.aload_n cx dJ1_successor_33 rfl 1 rfl ?_
      have hq9 : ix c_ = ix x + 1 := by have h1 := (i2 c_ hc).1 hp; omega
      have hs9 : E[ix x + 1]? = some c_ := by rw [← hq9]; exact i0 c_ hc
      have hq : (.ref c_ : Value) = va_rf E[ix x + 1]? := by rw [hs9]; rfl
      exact V.areturn cx rfl (Or.inl ⟨_, rfl⟩) ⟨by rw [hq], fun s hs => by have := Option.some.inj (hs9.symm.trans hs); subst this; exact ⟨hq9, fun _ => hp⟩, rfl⟩ (by decide) (by decide) dJ1_successor_34
    · have h2 := (i2 c_ hc).2 q hp
      have h3 := i1 c_ hc
      refine V.aload_n cx dJ1_successor_18 rfl 1 rfl ?_
      refine V.get cx kJ25 (tm_e hc) 2 (by decide) q1027 rfl rfl dJ1_successor_19 ?_
      refine V.toq (o' := (some q)) (by rw [hp]) ?_
      show V g A κ _ _ 0 0 (tmO E tm ka va lf rt pa co vl root n md h0) 22 [(0, .ref x), (1, .ref c_)] [.ref q]
      refine V.ifnull cx dJ1_successor_22 ?_
      refine V.aload_n cx dJ1_successor_25 rfl 1 rfl ?_
      refine V.get cx kJ25 (tm_e hc) 2 (by decide) q1027 rfl rfl dJ1_successor_26 ?_
      refine V.toq (o' := (some q)) (by rw [hp]) ?_
      show V g A κ _ _ 0 0 (tmO E tm ka va lf rt pa co vl root n md h0) 29 [(0, .ref x), (1, .ref c_)] [.ref q]
      refine V.astore_n (lv' := [(1, .ref q), (0, .ref x)]) cx dJ1_successor_29 rfl (by decide) rfl ?_
      refine V.goto (tgt := 18) cx dJ1_successor_30 (by decide) ?_
      refine V.sub [1, 0] rfl ?_
      exact ih_ q (by omega) ⟨h2.1, by omega⟩
abbrev cJ1_getFirstEntry : ByteArray := prog_68_method_72_code
def yJ1_getFirstEntry : MethodName := ⟨RJ1, "getFirstEntry", "()Ljava/util/TreeMap$Entry;"⟩
def dkwJ1_getFirstEntry_1 : List UInt8 := [43, 176]
abbrev dktJ1_getFirstEntry_1 : List UInt8 := dkwJ1_getFirstEntry_1 ++ []
def dkwJ1_getFirstEntry_0 : List UInt8 := [42, 180, 0, 101, 76, 43, 198, 0, 18, 43, 180, 0, 111, 198, 0, 11, 43, 180, 0, 111, 76, 167, 255, 244]
abbrev dktJ1_getFirstEntry_0 : List UInt8 := dkwJ1_getFirstEntry_0 ++ dktJ1_getFirstEntry_1
theorem dksJ1_getFirstEntry_0 : cJ1_getFirstEntry.data.toList.drop 0 = dktJ1_getFirstEntry_0 := by decide +kernel
theorem dksJ1_getFirstEntry_1 : cJ1_getFirstEntry.data.toList.drop 24 = dktJ1_getFirstEntry_1 := dk_seg dksJ1_getFirstEntry_0 24 rfl rfl
theorem dJ1_getFirstEntry_0 : decode cJ1_getFirstEntry 0 = .ok (.aload_n 0, 1) := dk_42 (dk_at dksJ1_getFirstEntry_0 0 rfl rfl)
theorem dJ1_getFirstEntry_1 : decode cJ1_getFirstEntry 1 = .ok (.getfield 101, 3) := dk_180 0 101 (dk_at dksJ1_getFirstEntry_0 1 rfl rfl)
theorem dJ1_getFirstEntry_4 : decode cJ1_getFirstEntry 4 = .ok (.astore_n 1, 1) := dk_76 (dk_at dksJ1_getFirstEntry_0 4 rfl rfl)
theorem dJ1_getFirstEntry_5 : decode cJ1_getFirstEntry 5 = .ok (.aload_n 1, 1) := dk_43 (dk_at dksJ1_getFirstEntry_0 5 rfl rfl)
theorem dJ1_getFirstEntry_6 : decode cJ1_getFirstEntry 6 = .ok (.ifnull 18, 3) := dk_198 0 18 (dk_at dksJ1_getFirstEntry_0 6 rfl rfl)
theorem dJ1_getFirstEntry_9 : decode cJ1_getFirstEntry 9 = .ok (.aload_n 1, 1) := dk_43 (dk_at dksJ1_getFirstEntry_0 9 rfl rfl)
theorem dJ1_getFirstEntry_10 : decode cJ1_getFirstEntry 10 = .ok (.getfield 111, 3) := dk_180 0 111 (dk_at dksJ1_getFirstEntry_0 10 rfl rfl)
theorem dJ1_getFirstEntry_13 : decode cJ1_getFirstEntry 13 = .ok (.ifnull 11, 3) := dk_198 0 11 (dk_at dksJ1_getFirstEntry_0 13 rfl rfl)
theorem dJ1_getFirstEntry_16 : decode cJ1_getFirstEntry 16 = .ok (.aload_n 1, 1) := dk_43 (dk_at dksJ1_getFirstEntry_0 16 rfl rfl)
theorem dJ1_getFirstEntry_17 : decode cJ1_getFirstEntry 17 = .ok (.getfield 111, 3) := dk_180 0 111 (dk_at dksJ1_getFirstEntry_0 17 rfl rfl)
theorem dJ1_getFirstEntry_20 : decode cJ1_getFirstEntry 20 = .ok (.astore_n 1, 1) := dk_76 (dk_at dksJ1_getFirstEntry_0 20 rfl rfl)
theorem dJ1_getFirstEntry_21 : decode cJ1_getFirstEntry 21 = .ok (.goto (-12), 3) := dk_167 255 244 (dk_at dksJ1_getFirstEntry_0 21 rfl rfl)
theorem dJ1_getFirstEntry_24 : decode cJ1_getFirstEntry 24 = .ok (.aload_n 1, 1) := dk_43 (dk_at dksJ1_getFirstEntry_1 0 rfl rfl)
theorem dJ1_getFirstEntry_25 : decode cJ1_getFirstEntry 25 = .ok (.areturn, 1) := dk_176 (dk_at dksJ1_getFirstEntry_1 1 rfl rfl)
set_option maxHeartbeats 4000000 in
theorem m_first (l : Launch) (hl : l.stackTraces = false) (g : GE) (A : Nat → Prop) (E : List Nat) (tm : Nat) (ka va : Nat → Nat) (lf rt pa : Nat → Option Nat) (co : Nat → Bool) (vl root : Option Nat) (n : Nat) (md : Int32) (h0 : AHT) (ix lo hi : Nat → Nat) (hI : Inv E ix lo hi lf rt pa root) (ht : tm ∉ E) : U_ l g A yJ1_getFirstEntry 1 0 0 [.ref tm] (tmO E tm ka va lf rt pa co vl root n md h0) (fun v h' => v = some (va_rf E[0]?) ∧ (tmO E tm ka va lf rt pa co vl root n md h0) = h') noX := by
  refine U_.of (own := RJ1) (cc := cJ1_getFirstEntry) (L := 2) (ret := (some (Jvm.ClassFile.FieldType.object "java/util/TreeMap$Entry"))) hl rfl (plainFor_of_name (by decide)) ⟨by decide, by decide⟩ q403 q85 (by decide) (fun e => absurd e (by decide)) (Nat.le_of_ble_eq_true rfl) (fun κ cx => ?_)
  show V g A κ _ _ 0 0 (tmO E tm ka va lf rt pa co vl root n md h0) 0 [(0, .ref tm)] []
  obtain ⟨i0, i1, i2, i3, i4, i5⟩ := hI
  rcases opt_c root with hr | ⟨r, hr⟩
  · refine V.aload_n cx dJ1_getFirstEntry_0 rfl 0 rfl ?_
    refine V.get cx kJ1 (tm_t ht) 3 (by decide) q158 rfl rfl dJ1_getFirstEntry_1 ?_
    refine V.toq (o' := none) (by rw [hr]) ?_
    show V g A κ _ _ 0 0 (tmO E tm ka va lf rt pa co vl root n md h0) 4 [(0, .ref tm)] [.null]
    refine V.astore_nN (lv' := [(1, .null), (0, .ref tm)]) cx dJ1_getFirstEntry_4 rfl (by decide) rfl ?_
    refine V.aload_nN cx dJ1_getFirstEntry_5 rfl 0 rfl ?_
    refine V.ifnullN (tgt := 24) cx dJ1_getFirstEntry_6 (by decide) ?_
    refine V.aload_nN cx dJ1_getFirstEntry_24 rfl 0 rfl ?_
    have hq : (.null : Value) = va_rf E[0]? := by rw [List.eq_nil_of_length_eq_zero (i5.1 hr)]; rfl
    exact V.areturnN cx rfl (Or.inl ⟨_, rfl⟩) ⟨by rw [hq], rfl⟩ (by decide) (by decide) dJ1_getFirstEntry_25
  · have h1 := i5.2 r hr
    refine V.aload_n cx dJ1_getFirstEntry_0 rfl 0 rfl ?_
    refine V.get cx kJ1 (tm_t ht) 3 (by decide) q158 rfl rfl dJ1_getFirstEntry_1 ?_
    refine V.toq (o' := (some r)) (by rw [hr]) ?_
    show V g A κ _ _ 0 0 (tmO E tm ka va lf rt pa co vl root n md h0) 4 [(0, .ref tm)] [.ref r]
    refine V.astore_n (lv' := [(1, .ref r), (0, .ref tm)]) cx dJ1_getFirstEntry_4 rfl (by decide) rfl ?_
    refine V.aload_n cx dJ1_getFirstEntry_5 rfl 0 rfl ?_
    refine V.ifnull cx dJ1_getFirstEntry_6 ?_
    refine V.sub [1, 0] rfl ?_
    refine V.loop (α := (Nat)) (fun z9_ => hi (z9_) - lo (z9_)) (fun z9_ => (z9_) ∈ E ∧ lo (z9_) = 0) (fun z9_ => 0) (fun z9_ => 0) (fun z9_ => (tmO E tm ka va lf rt pa co vl root n md h0)) (fun z9_ => [(0, .ref tm), (1, .ref (z9_))]) (fun z9_ => []) (fun c_ hP_ ih_ => ?_) r ⟨h1.1, h1.2.2.1⟩
    obtain ⟨hc, hh⟩ := hP_
    show V g A κ _ _ 0 0 (tmO E tm ka va lf rt pa co vl root n md h0) 9 [(0, .ref tm), (1, .ref c_)] []
    rcases opt_c (lf c_) with hp | ⟨q, hp⟩
    · refine V.aload_n cx dJ1_getFirstEntry_9 rfl 1 rfl ?_
      refine V.get cx kJ25 (tm_e hc) 2 (by decide) q1027 rfl rfl dJ1_getFirstEntry_10 ?_
      refine V.toq (o' := none) (by rw [hp]) ?_
      show V g A κ _ _ 0 0 (tmO E tm ka va lf rt pa co vl root n md h0) 13 [(0, .ref tm), (1, .ref c_)] [.null]
      refine V.ifnullN (tgt := 24) cx dJ1_getFirstEntry_13 (by decide) ?_
      refine V.aload_n cx dJ1_getFirstEntry_24 rfl 1 rfl ?_
      have hq : (.ref c_ : Value) = va_rf E[0]? := by have h1 := (i2 c_ hc).1 hp; have h2 := i0 c_ hc; rw [← h1, hh] at h2; rw [h2]; rfl
      exact V.areturn cx rfl (Or.inl ⟨_, rfl⟩) ⟨by rw [hq], rfl⟩ (by decide) (by decide) dJ1_getFirstEntry_25
    · have h2 := (i2 c_ hc).2 q hp
      have h3 := i1 c_ hc
      refine V.aload_n cx dJ1_getFirstEntry_9 rfl 1 rfl ?_
      refine V.get cx kJ25 (tm_e hc) 2 (by decide) q1027 rfl rfl dJ1_getFirstEntry_10 ?_
      refine V.toq (o' := (some q)) (by rw [hp]) ?_
      show V g A κ _ _ 0 0 (tmO E tm ka va lf rt pa co vl root n md h0) 13 [(0, .ref tm), (1, .ref c_)] [.ref q]
      refine V.ifnull cx dJ1_getFirstEntry_13 ?_
      refine V.aload_n cx dJ1_getFirstEntry_16 rfl 1 rfl ?_
      refine V.get cx kJ25 (tm_e hc) 2 (by decide) q1027 rfl rfl dJ1_getFirstEntry_17 ?_
      refine V.toq (o' := (some q)) (by rw [hp]) ?_
      show V g A κ _ _ 0 0 (tmO E tm ka va lf rt pa co vl root n md h0) 20 [(0, .ref tm), (1, .ref c_)] [.ref q]
      refine V.astore_n (lv' := [(1, .ref q), (0, .ref tm)]) cx dJ1_getFirstEntry_20 rfl (by decide) rfl ?_
      refine V.goto (tgt := 9) cx dJ1_getFirstEntry_21 (by decide) ?_
      refine V.sub [1, 0] rfl ?_
      exact ih_ q (by omega) ⟨h2.1, by omega⟩
