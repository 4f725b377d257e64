theorem Cx.ret {l : Launch} {g : GE} {A : Nat → Prop} {κ : MC} {own : String} {cc : ByteArray} {L : Nat} {ret : Option FieldType} {d mc ms : Nat} {hh : List (Nat × Nat × Nat × Nat)} {yy : MethodName} (cx : Cx l g A κ own cc L ret d mc ms hh yy) : κ.meth.sig.returnType = ret := cx.2.2.1
theorem Cx.ml {l : Launch} {g : GE} {A : Nat → Prop} {κ : MC} {own : String} {cc : ByteArray} {L : Nat} {ret : Option FieldType} {d mc ms : Nat} {hh : List (Nat × Nat × Nat × Nat)} {yy : MethodName} (cx : Cx l g A κ own cc L ret d mc ms hh yy) : κ.c.maxLocals = L := cx.2.2.2.1
theorem Cx.own {l : Launch} {g : GE} {A : Nat → Prop} {κ : MC} {own : String} {cc : ByteArray} {L : Nat} {ret : Option FieldType} {d mc ms : Nat} {hh : List (Nat × Nat × Nat × Nat)} {yy : MethodName} (cx : Cx l g A κ own cc L ret d mc ms hh yy) : κ.s.vm.findClass own = some κ.m.cls := cx.2.2.2.2.1
theorem Cx.hts {l : Launch} {g : GE} {A : Nat → Prop} {κ : MC} {own : String} {cc : ByteArray} {L : Nat} {ret : Option FieldType} {d mc ms : Nat} {hh : List (Nat × Nat × Nat × Nat)} {yy : MethodName} (cx : Cx l g A κ own cc L ret d mc ms hh yy) : ∀ w ∈ lw_all, w.before κ.args κ.s = true := cx.2.2.2.2.2.1
theorem Cx.locks {l : Launch} {g : GE} {A : Nat → Prop} {κ : MC} {own : String} {cc : ByteArray} {L : Nat} {ret : Option FieldType} {d mc ms : Nat} {hh : List (Nat × Nat × Nat × Nat)} {yy : MethodName} (cx : Cx l g A κ own cc L ret d mc ms hh yy) : κ.meth.locks = false := cx.2.2.2.2.2.2.1
theorem Cx.R {l : Launch} {g : GE} {A : Nat → Prop} {κ : MC} {own : String} {cc : ByteArray} {L : Nat} {ret : Option FieldType} {d mc ms : Nat} {hh : List (Nat × Nat × Nat × Nat)} {yy : MethodName} (cx : Cx l g A κ own cc L ret d mc ms hh yy) : κ.R = rmd d mc ms := cx.2.2.2.2.2.2.2.1
theorem Cx.world {l : Launch} {g : GE} {A : Nat → Prop} {κ : MC} {own : String} {cc : ByteArray} {L : Nat} {ret : Option FieldType} {d mc ms : Nat} {hh : List (Nat × Nat × Nat × Nat)} {yy : MethodName} (cx : Cx l g A κ own cc L ret d mc ms hh yy) : World g A κ.s κ.s.heap := cx.2.2.2.2.2.2.2.2.1
theorem Cx.le {l : Launch} {g : GE} {A : Nat → Prop} {κ : MC} {own : String} {cc : ByteArray} {L : Nat} {ret : Option FieldType} {d mc ms : Nat} {hh : List (Nat × Nat × Nat × Nat)} {yy : MethodName} (cx : Cx l g A κ own cc L ret d mc ms hh yy) : κ.l = l := cx.2.2.2.2.2.2.2.2.2.1
theorem Cx.st {l : Launch} {g : GE} {A : Nat → Prop} {κ : MC} {own : String} {cc : ByteArray} {L : Nat} {ret : Option FieldType} {d mc ms : Nat} {hh : List (Nat × Nat × Nat × Nat)} {yy : MethodName} (cx : Cx l g A κ own cc L ret d mc ms hh yy) : l.stackTraces = false := cx.2.2.2.2.2.2.2.2.2.2.1
theorem Cx.tab {l : Launch} {g : GE} {A : Nat → Prop} {κ : MC} {own : String} {cc : ByteArray} {L : Nat} {ret : Option FieldType} {d mc ms : Nat} {hh : List (Nat × Nat × Nat × Nat)} {yy : MethodName} (cx : Cx l g A κ own cc L ret d mc ms hh yy) : κ.c.exceptionTable.toList = tableOf hh := cx.2.2.2.2.2.2.2.2.2.2.2.1
theorem Cx.name {l : Launch} {g : GE} {A : Nat → Prop} {κ : MC} {own : String} {cc : ByteArray} {L : Nat} {ret : Option FieldType} {d mc ms : Nat} {hh : List (Nat × Nat × Nat × Nat)} {yy : MethodName} (cx : Cx l g A κ own cc L ret d mc ms hh yy) : κ.meth.name = yy.name := cx.2.2.2.2.2.2.2.2.2.2.2.2
theorem V.get {l : Launch} {g : GE} {A : Nat → Prop} {κ : MC} {own : String} {cc : ByteArray} {L : Nat} {ret : Option FieldType} {d mc ms : Nat} {hh : List (Nat × Nat × Nat × Nat)} {yy : MethodName} {Q : State → Prop} {k n : Nat} {h : AHT} {pc : Nat} {lv : List (Nat × Value)} {st : List Value} {a ix : Nat} {ref : String} {fs : List Value} {v : Value} (cx : Cx l g A κ own cc L ret d mc ms hh yy) {ci N : Nat} {C : String} {T : u_T} {ty0 : Nat → FieldType} (K : Kls ci C T N ty0) (hc : h a = some (.inr (ci, fs))) (kf : Nat) (hk : kf < N) (hq : Cond.fieldLink own ix ref (T kf).2.1 (T kf).2.2.1 ∈ lw_all) (href : ref = (T kf).1) (hv : fs[kf]? = some v) (hdg : decode cc pc = .ok (.getfield ix, 3)) (kk : V g A κ L Q k n h (pc + 3) lv (v :: st)) : V g A κ L Q k n h pc lv (.ref a :: st) := by
  intro H locs ls hR hS hl
  obtain ⟨ws, q0, hP, hD, hq0, -⟩ := hR.mem hc
  exact va_get cx.1 cx.2.1 cx.hts K.2.1 cx.own cx.world.1 hP q0 hq0 K.1 kf hk (cx.hts _ hq) (fun x hx => by rw [href]; exact hx) hv hdg (kk H locs ls hR hS hl)
theorem V.getS {l : Launch} {g : GE} {A : Nat → Prop} {κ : MC} {own : String} {cc : ByteArray} {L : Nat} {ret : Option FieldType} {d mc ms : Nat} {hh : List (Nat × Nat × Nat × Nat)} {yy : MethodName} {Q : State → Prop} {k n : Nat} {h : AHT} {pc : Nat} {lv : List (Nat × Value)} {st : List Value} {a ix : Nat} {ref : String} {fs : List Value} {v : Value} (cx : Cx l g A κ own cc L ret d mc ms hh yy) {ci N : Nat} {C : String} {T : u_T} {ty0 : Nat → FieldType} (K : Kls ci C T N ty0) (hc : h a = some (.inr (ci, fs))) (kf : Nat) (hk : kf < N) (hq : Cond.fieldLink own ix ref (T kf).2.1 (T kf).2.2.1 ∈ lw_all) (hsm : Cond.sameField ref (T kf).1 (T kf).2.1 (T kf).2.2.1 ∈ lw_all) (hv : fs[kf]? = some v) (hdg : decode cc pc = .ok (.getfield ix, 3)) (kk : V g A κ L Q k n h (pc + 3) lv (v :: st)) : V g A κ L Q k n h pc lv (.ref a :: st) := by
  intro H locs ls hR hS hl
  obtain ⟨ws, q0, hP, hD, hq0, -⟩ := hR.mem hc
  exact va_get cx.1 cx.2.1 cx.hts K.2.1 cx.own cx.world.1 hP q0 hq0 K.1 kf hk (cx.hts _ hq) (fun x hx => u_same (cx.hts _ hsm) x hx) hv hdg (kk H locs ls hR hS hl)
theorem V.getN {l : Launch} {g : GE} {A : Nat → Prop} {κ : MC} {own : String} {cc : ByteArray} {L : Nat} {ret : Option FieldType} {d mc ms : Nat} {hh : List (Nat × Nat × Nat × Nat)} {yy : MethodName} {Q : State → Prop} {k n : Nat} {h : AHT} {pc : Nat} {lv : List (Nat × Value)} {st : List Value} {host : String} {a ix : Nat} {ref : String} {fs : List Value} {v : Value} (cx : Cx l g A κ own cc L ret d mc ms hh yy) {ci N : Nat} {C : String} {T : u_T} {ty0 : Nat → FieldType} (K : Kls ci C T N ty0) (hc : h a = some (.inr (ci, fs))) (kf : Nat) (hk : kf < N) (hq : Cond.fieldLinkNest own ix ref (T kf).2.1 (T kf).2.2.1 host ∈ lw_tbl) (href : ref = (T kf).1) (hv : fs[kf]? = some v) (hdg : decode cc pc = .ok (.getfield ix, 3)) (kk : V g A κ L Q k n h (pc + 3) lv (v :: st)) : V g A κ L Q k n h pc lv (.ref a :: st) := by
  intro H locs ls hR hS hl
  obtain ⟨ws, q0, hP, hD, hq0, -⟩ := hR.mem hc
  exact va_getN cx.1 cx.2.1 cx.hts K.2.1 cx.own cx.world.1 hP q0 hq0 K.1 kf hk (va_Nw.use rfl (cx.world.2.1 _ hq rfl)) (fun x hx => by rw [href]; exact hx) hv hdg (kk H locs ls hR hS hl)
theorem V.put {l : Launch} {g : GE} {A : Nat → Prop} {κ : MC} {own : String} {cc : ByteArray} {L : Nat} {ret : Option FieldType} {d mc ms : Nat} {hh : List (Nat × Nat × Nat × Nat)} {yy : MethodName} {Q : State → Prop} {k n : Nat} {h : AHT} {pc : Nat} {lv : List (Nat × Value)} {st : List Value} {a ix : Nat} {ref : String} {fs : List Value} {v : Value} (cx : Cx l g A κ own cc L ret d mc ms hh yy) {ci N : Nat} {C : String} {T : u_T} {ty0 : Nat → FieldType} (K : Kls ci C T N ty0) (hc : h a = some (.inr (ci, fs))) (kf : Nat) (hk : kf < N) (hfin : (T kf).2.2.2 = false) {ty : FieldType} (hty : parseFieldDescriptor (T kf).2.2.1 = some ty) (hn : narrow ty v = v) (hfit : fits ty v = true) (hl0 : kf < fs.length) (hq : Cond.fieldLink own ix ref (T kf).2.1 (T kf).2.2.1 ∈ lw_all) (href : ref = (T kf).1) (hdg : decode cc pc = .ok (.putfield ix, 3)) (kk : V g A κ L Q k n (up h a (.inr (ci, fs.set kf v))) (pc + 3) lv st) : V g A κ L Q k n h pc lv (v :: .ref a :: st) := by
  intro H locs ls hR hS hl
  obtain ⟨ws, q0, hP, hD, hq0, h3⟩ := hR.mem hc
  exact va_put cx.1 cx.2.1 cx.hts K.2.1 ty0 K.2.2.1 K.2.2.2 cx.own cx.world.1 hP hD hS q0 hq0 K.1 kf hk (cx.hts _ hq) (fun x hx => by rw [href]; exact hx) hfin hty hn hfit hl0 hdg (fun H1 locs1 hP1 hD1 hS1 => kk H1 locs1 ls (R_.set hq0 h3 hP1 hD1) hS1 hl)
theorem V.putS {l : Launch} {g : GE} {A : Nat → Prop} {κ : MC} {own : String} {cc : ByteArray} {L : Nat} {ret : Option FieldType} {d mc ms : Nat} {hh : List (Nat × Nat × Nat × Nat)} {yy : MethodName} {Q : State → Prop} {k n : Nat} {h : AHT} {pc : Nat} {lv : List (Nat × Value)} {st : List Value} {a ix : Nat} {ref : String} {fs : List Value} {v : Value} (cx : Cx l g A κ own cc L ret d mc ms hh yy) {ci N : Nat} {C : String} {T : u_T} {ty0 : Nat → FieldType} (K : Kls ci C T N ty0) (hc : h a = some (.inr (ci, fs))) (kf : Nat) (hk : kf < N) (hfin : (T kf).2.2.2 = false) {ty : FieldType} (hty : parseFieldDescriptor (T kf).2.2.1 = some ty) (hn : narrow ty v = v) (hfit : fits ty v = true) (hl0 : kf < fs.length) (hq : Cond.fieldLink own ix ref (T kf).2.1 (T kf).2.2.1 ∈ lw_all) (hsm : Cond.sameField ref (T kf).1 (T kf).2.1 (T kf).2.2.1 ∈ lw_all) (hdg : decode cc pc = .ok (.putfield ix, 3)) (kk : V g A κ L Q k n (up h a (.inr (ci, fs.set kf v))) (pc + 3) lv st) : V g A κ L Q k n h pc lv (v :: .ref a :: st) := by
  intro H locs ls hR hS hl
  obtain ⟨ws, q0, hP, hD, hq0, h3⟩ := hR.mem hc
  exact va_put cx.1 cx.2.1 cx.hts K.2.1 ty0 K.2.2.1 K.2.2.2 cx.own cx.world.1 hP hD hS q0 hq0 K.1 kf hk (cx.hts _ hq) (fun x hx => u_same (cx.hts _ hsm) x hx) hfin hty hn hfit hl0 hdg (fun H1 locs1 hP1 hD1 hS1 => kk H1 locs1 ls (R_.set hq0 h3 hP1 hD1) hS1 hl)
theorem V.putN {l : Launch} {g : GE} {A : Nat → Prop} {κ : MC} {own : String} {cc : ByteArray} {L : Nat} {ret : Option FieldType} {d mc ms : Nat} {hh : List (Nat × Nat × Nat × Nat)} {yy : MethodName} {Q : State → Prop} {k n : Nat} {h : AHT} {pc : Nat} {lv : List (Nat × Value)} {st : List Value} {host : String} {a ix : Nat} {ref : String} {fs : List Value} {v : Value} (cx : Cx l g A κ own cc L ret d mc ms hh yy) {ci N : Nat} {C : String} {T : u_T} {ty0 : Nat → FieldType} (K : Kls ci C T N ty0) (hc : h a = some (.inr (ci, fs))) (kf : Nat) (hk : kf < N) (hfin : (T kf).2.2.2 = false) {ty : FieldType} (hty : parseFieldDescriptor (T kf).2.2.1 = some ty) (hn : narrow ty v = v) (hfit : fits ty v = true) (hl0 : kf < fs.length) (hq : Cond.fieldLinkNest own ix ref (T kf).2.1 (T kf).2.2.1 host ∈ lw_tbl) (href : ref = (T kf).1) (hdg : decode cc pc = .ok (.putfield ix, 3)) (kk : V g A κ L Q k n (up h a (.inr (ci, fs.set kf v))) (pc + 3) lv st) : V g A κ L Q k n h pc lv (v :: .ref a :: st) := by
  intro H locs ls hR hS hl
  obtain ⟨ws, q0, hP, hD, hq0, h3⟩ := hR.mem hc
  exact va_putN cx.1 cx.2.1 cx.hts K.2.1 ty0 K.2.2.1 K.2.2.2 cx.own cx.world.1 hP hD hS q0 hq0 K.1 kf hk (va_Nw.use rfl (cx.world.2.1 _ hq rfl)) (fun x hx => by rw [href]; exact hx) hfin hty hn hfit hl0 hdg (fun H1 locs1 hP1 hD1 hS1 => kk H1 locs1 ls (R_.set hq0 h3 hP1 hD1) hS1 hl)
theorem V.putF {l : Launch} {g : GE} {A : Nat → Prop} {κ : MC} {own : String} {cc : ByteArray} {L : Nat} {ret : Option FieldType} {d mc ms : Nat} {hh : List (Nat × Nat × Nat × Nat)} {yy : MethodName} {Q : State → Prop} {k n : Nat} {h : AHT} {pc : Nat} {lv : List (Nat × Value)} {st : List Value} {a ix : Nat} {ref : String} {fs : List Value} {v : Value} (cx : Cx l g A κ own cc L ret d mc ms hh yy) {ci N : Nat} {C : String} {T : u_T} {ty0 : Nat → FieldType} (K : Kls ci C T N ty0) (hc : h a = some (.inr (ci, fs))) (kf : Nat) (hk : kf < N) (hfin : (T kf).2.2.2 = true) (hini : yy.name = "<init>") (hdecl : (T kf).1 = own) {ty : FieldType} (hty : parseFieldDescriptor (T kf).2.2.1 = some ty) (hn : narrow ty v = v) (hfit : fits ty v = true) (hl0 : kf < fs.length) (hq : Cond.fieldLink own ix ref (T kf).2.1 (T kf).2.2.1 ∈ lw_all) (href : ref = (T kf).1) (hdg : decode cc pc = .ok (.putfield ix, 3)) (kk : V g A κ L Q k n (up h a (.inr (ci, fs.set kf v))) (pc + 3) lv st) : V g A κ L Q k n h pc lv (v :: .ref a :: st) := by
  intro H locs ls hR hS hl
  obtain ⟨ws, q0, hP, hD, hq0, h3⟩ := hR.mem hc
  exact va_putF cx.1 cx.2.1 cx.hts K.2.1 ty0 K.2.2.1 K.2.2.2 cx.own cx.world.1 hP hD hS q0 hq0 K.1 kf hk (cx.hts _ hq) (fun x hx => by rw [href]; exact hx) hfin (cx.name.trans hini) hdecl hty hn hfit hl0 hdg (fun H1 locs1 hP1 hD1 hS1 => kk H1 locs1 ls (R_.set hq0 h3 hP1 hD1) hS1 hl)
theorem V.getR {l : Launch} {g : GE} {A : Nat → Prop} {κ : MC} {own : String} {cc : ByteArray} {L : Nat} {ret : Option FieldType} {d mc ms : Nat} {hh : List (Nat × Nat × Nat × Nat)} {yy : MethodName} {Q : State → Prop} {k n : Nat} {h : AHT} {pc : Nat} {lv : List (Nat × Value)} {st : List Value} {a ix : Nat} {C o nm ds ref : String} {v : Value} {F : List (String × String × String × Value)} (cx : Cx l g A κ own cc L ret d mc ms hh yy) (hc : g.ro a = some (C, F)) (hf : (o, nm, ds, v) ∈ F) (hq : Cond.fieldLink own ix ref nm ds ∈ lw_all) (href : ref = o) (hdg : decode cc pc = .ok (.getfield ix, 3)) (kk : V g A κ L Q k n h (pc + 3) lv (v :: st)) : V g A κ L Q k n h pc lv (.ref a :: st) := by
  intro H locs ls hR hS hl
  obtain ⟨-, -, -, -, -, -, ⟨-, hro, -⟩, -⟩ := cx.world
  exact vk_getf cx.1 cx.2.1 ((hro a C F hc).2 _ hf) hS cx.own (cx.hts _ hq) (fun x hx => by rw [href]; exact hx) hdg (kk H locs ls hR hS hl)
theorem V.new {l : Launch} {g : GE} {A : Nat → Prop} {κ : MC} {own : String} {cc : ByteArray} {L : Nat} {ret : Option FieldType} {d mc ms : Nat} {hh : List (Nat × Nat × Nat × Nat)} {yy : MethodName} {Q : State → Prop} {k n : Nat} {h : AHT} {pc : Nat} {lv : List (Nat × Value)} {st : List Value} {ix : Nat} {fs : List Value} (cx : Cx l g A κ own cc L ret d mc ms hh yy) {ci N : Nat} {C : String} {T : u_T} {ty0 : Nat → FieldType} (K : Kls ci C T N ty0) (hcl : Cond.classLink own ix C ∈ lw_all) (hi : Cond.instantiable C N ∈ lw_all) (hini : Cond.initialized C ∈ lw_all) (hfs : ∀ j, j < N → defaultValue (ty0 j) = vp_V fs j) (hkc : k + 1 ≤ mc) (hks : n + N ≤ ms) (hdg : decode cc pc = .ok (.new ix, 3)) (kk : ∀ q : Nat, h q = none → V g A κ L Q (k + 1) (n + N) (up h q (.inr (ci, fs))) (pc + 3) lv (.ref q :: st)) : V g A κ L Q k n h pc lv st := by
  intro H locs ls hR hS hl
  obtain ⟨ws, hP, hD, h3⟩ := hR
  exact va_new cx.1 cx.2.1 cx.hts K.2.1 ty0 K.2.2.1 cx.own (cx.hts _ hcl) (cx.hts _ hi) (cx.hts _ hini) cx.world.1 hP hD hS cx.world.2.2.2.2.2.2.1.1 K.1 hfs (by rw [cx.R]; exact hkc) (by rw [cx.R]; exact hks) hdg (fun q H1 hP1 hD1 hS1 => kk q (R_.push h3 hP1 hD1).2 H1 locs ls (R_.push h3 hP1 hD1).1 hS1 hl)
theorem V.newaG {l : Launch} {g : GE} {A : Nat → Prop} {κ : MC} {own : String} {cc : ByteArray} {L : Nat} {ret : Option FieldType} {d mc ms : Nat} {hh : List (Nat × Nat × Nat × Nat)} {yy : MethodName} {Q : State → Prop} {k n : Nat} {h : AHT} {pc : Nat} {lv : List (Nat × Value)} {st : List Value} {at9 : ArrayType} {ty : FieldType} {t0 N : Nat} {x : Int32} {b9 : Nat × ((Nat → Int32) ⊕ (Nat → Int64) ⊕ (Nat → UInt32) ⊕ (Nat → UInt64) ⊕ (Nat → Option Nat))} (cx : Cx l g A κ own cc L ret d mc ms hh yy) (harr : Cond.arrayClass (newarray.typeOf at9) ∈ lw_all) (hty : newarray.typeOf at9 = ty) (ht : (tysG g)[t0]? = some (g.2.1 t0, ty)) (hra : ∀ (U : State) (c : ClassId), va_RA U c ty = (U.vm.findClass ("[" ++ ty.toString) = some c)) (ha : ∀ cA : ClassId, vp_cell cA b9 = arrV cA N (fun _ => defaultValue ty)) (hx : x = nI N) (hN : N < 2 ^ 24) (hby : N * componentBytes ty ≤ 536870912) (hkc : k + 1 ≤ mc) (hks : n + N ≤ ms) (hdg : decode cc pc = .ok (.newarray at9, 2)) (kk : ∀ q : Nat, h q = none → V g A κ L Q (k + 1) (n + N) (up h q (.inl (g.2.1 t0, b9))) (pc + 2) lv (.ref q :: st)) : V g A κ L Q k n h pc lv (.int x :: st) := by
  intro H locs ls hR hS hl
  obtain ⟨ws, hP, hD, h3⟩ := hR
  have h31 : N < 2 ^ 31 := Nat.lt_trans hN (by decide)
  refine va_newa cx.1 cx.2.1 (cx.hts _ harr) hty cx.world.1 hP hD hS cx.world.2.2.2.2.2.2.1.1 (N' := N) ha (by rw [hx]; exact nI_pos h31) (by rw [hx]; exact nI_clamp h31) hby (by rw [cx.R]; exact hkc) (by rw [cx.R]; exact hks) hdg (fun q cA H1 hK1 hP1 hD1 hS1 => ?_)
  have e1 := (cx.world.1.2 t0 _ ht).2
  have e2 := (hK1.2 (tysG g).length (cA, ty) (by simp)).2
  rw [hra] at e1 e2
  cases Option.some.inj (e2.symm.trans e1)
  exact kk q (R_.push h3 hP1 hD1).2 H1 locs ls (R_.push h3 hP1 hD1).1 hS1 hl
theorem V.iaload {l : Launch} {g : GE} {A : Nat → Prop} {κ : MC} {own : String} {cc : ByteArray} {L : Nat} {ret : Option FieldType} {d mc ms : Nat} {hh : List (Nat × Nat × Nat × Nat)} {yy : MethodName} {Q : State → Prop} {k n : Nat} {h : AHT} {pc : Nat} {lv : List (Nat × Value)} {st : List Value} {a N j : Nat} {i : Int32} {f : Nat → Int32} (cx : Cx l g A κ own cc L ret d mc ms hh yy) (hc : h a = some (aI g 0 N f)) (hi : i = nI j) (hj : j < N) (hN : N < 2 ^ 24) (hdg : decode cc pc = .ok (.iaload, 1)) (kk : V g A κ L Q k n h (pc + 1) lv (.int (f j) :: st)) : V g A κ L Q k n h pc lv (.int i :: .ref a :: st) := by
  intro H locs ls hR hS hl
  have h31 : N < 2 ^ 31 := Nat.lt_trans hN (by decide)
  obtain ⟨ws, q0, hP, hD, hq0, h3⟩ := hR.mem hc
  subst hi
  refine va_iald cx.1 cx.2.1 cx.world.1 hP q0 0 hq0 rfl (vp_in_nI hj h31) hdg ?_
  rw [nI_clamp (Nat.lt_trans hj h31)]
  exact kk H locs ls hR hS hl
theorem V.caload {l : Launch} {g : GE} {A : Nat → Prop} {κ : MC} {own : String} {cc : ByteArray} {L : Nat} {ret : Option FieldType} {d mc ms : Nat} {hh : List (Nat × Nat × Nat × Nat)} {yy : MethodName} {Q : State → Prop} {k n : Nat} {h : AHT} {pc : Nat} {lv : List (Nat × Value)} {st : List Value} {a N j : Nat} {i : Int32} {f : Nat → Int32} (cx : Cx l g A κ own cc L ret d mc ms hh yy) (hc : h a = some (aI g 1 N f)) (hi : i = nI j) (hj : j < N) (hN : N < 2 ^ 24) (hdg : decode cc pc = .ok (.caload, 1)) (kk : V g A κ L Q k n h (pc + 1) lv (.int (f j) :: st)) : V g A κ L Q k n h pc lv (.int i :: .ref a :: st) := by
  intro H locs ls hR hS hl
  have h31 : N < 2 ^ 31 := Nat.lt_trans hN (by decide)
  obtain ⟨ws, q0, hP, hD, hq0, h3⟩ := hR.mem hc
  subst hi
  refine va_cald cx.1 cx.2.1 cx.world.1 hP q0 1 hq0 rfl (vp_in_nI hj h31) hdg ?_
  rw [nI_clamp (Nat.lt_trans hj h31)]
  exact kk H locs ls hR hS hl
theorem V.baload {l : Launch} {g : GE} {A : Nat → Prop} {κ : MC} {own : String} {cc : ByteArray} {L : Nat} {ret : Option FieldType} {d mc ms : Nat} {hh : List (Nat × Nat × Nat × Nat)} {yy : MethodName} {Q : State → Prop} {k n : Nat} {h : AHT} {pc : Nat} {lv : List (Nat × Value)} {st : List Value} {a N j : Nat} {i : Int32} {f : Nat → Int32} (cx : Cx l g A κ own cc L ret d mc ms hh yy) (hc : h a = some (aI g 2 N f)) (hi : i = nI j) (hj : j < N) (hN : N < 2 ^ 24) (hdg : decode cc pc = .ok (.baload, 1)) (kk : V g A κ L Q k n h (pc + 1) lv (.int (f j) :: st)) : V g A κ L Q k n h pc lv (.int i :: .ref a :: st) := by
  intro H locs ls hR hS hl
  have h31 : N < 2 ^ 31 := Nat.lt_trans hN (by decide)
  obtain ⟨ws, q0, hP, hD, hq0, h3⟩ := hR.mem hc
  subst hi
  refine va_bald cx.1 cx.2.1 cx.world.1 hP q0 2 hq0 rfl (vp_in_nI hj h31) hdg ?_
  rw [nI_clamp (Nat.lt_trans hj h31)]
  exact kk H locs ls hR hS hl
theorem V.laload {l : Launch} {g : GE} {A : Nat → Prop} {κ : MC} {own : String} {cc : ByteArray} {L : Nat} {ret : Option FieldType} {d mc ms : Nat} {hh : List (Nat × Nat × Nat × Nat)} {yy : MethodName} {Q : State → Prop} {k n : Nat} {h : AHT} {pc : Nat} {lv : List (Nat × Value)} {st : List Value} {a N j : Nat} {i : Int32} {f : Nat → Int64} (cx : Cx l g A κ own cc L ret d mc ms hh yy) (hc : h a = some (aL g 3 N f)) (hi : i = nI j) (hj : j < N) (hN : N < 2 ^ 24) (hdg : decode cc pc = .ok (.laload, 1)) (kk : V g A κ L Q k n h (pc + 1) lv (.long (f j) :: st)) : V g A κ L Q k n h pc lv (.int i :: .ref a :: st) := by
  intro H locs ls hR hS hl
  have h31 : N < 2 ^ 31 := Nat.lt_trans hN (by decide)
  obtain ⟨ws, q0, hP, hD, hq0, h3⟩ := hR.mem hc
  subst hi
  refine va_lald cx.1 cx.2.1 cx.world.1 hP q0 3 hq0 rfl (vp_in_nI hj h31) hdg ?_
  rw [nI_clamp (Nat.lt_trans hj h31)]
  exact kk H locs ls hR hS hl
theorem V.daload {l : Launch} {g : GE} {A : Nat → Prop} {κ : MC} {own : String} {cc : ByteArray} {L : Nat} {ret : Option FieldType} {d mc ms : Nat} {hh : List (Nat × Nat × Nat × Nat)} {yy : MethodName} {Q : State → Prop} {k n : Nat} {h : AHT} {pc : Nat} {lv : List (Nat × Value)} {st : List Value} {a N j : Nat} {i : Int32} {f : Nat → UInt64} (cx : Cx l g A κ own cc L ret d mc ms hh yy) (hc : h a = some (.inl (g.2.1 4, N, .inr (.inr (.inr (.inl f)))))) (hi : i = nI j) (hj : j < N) (hN : N < 2 ^ 24) (hdg : decode cc pc = .ok (.daload, 1)) (kk : V g A κ L Q k n h (pc + 1) lv (.double (f j) :: st)) : V g A κ L Q k n h pc lv (.int i :: .ref a :: st) := by
  intro H locs ls hR hS hl
  have h31 : N < 2 ^ 31 := Nat.lt_trans hN (by decide)
  obtain ⟨ws, q0, hP, hD, hq0, h3⟩ := hR.mem hc
  subst hi
  refine va_dald cx.1 cx.2.1 cx.world.1 hP q0 4 hq0 rfl (vp_in_nI hj h31) hdg ?_
  rw [nI_clamp (Nat.lt_trans hj h31)]
  exact kk H locs ls hR hS hl
theorem V.iastore {l : Launch} {g : GE} {A : Nat → Prop} {κ : MC} {own : String} {cc : ByteArray} {L : Nat} {ret : Option FieldType} {d mc ms : Nat} {hh : List (Nat × Nat × Nat × Nat)} {yy : MethodName} {Q : State → Prop} {k n : Nat} {h : AHT} {pc : Nat} {lv : List (Nat × Value)} {st : List Value} {a N j : Nat} {i : Int32} {x : Int32} {f : Nat → Int32} (cx : Cx l g A κ own cc L ret d mc ms hh yy) (hc : h a = some (aI g 0 N f)) (hi : i = nI j) (hj : j < N) (hN : N < 2 ^ 24)  (hdg : decode cc pc = .ok (.iastore, 1)) (kk : V g A κ L Q k n (up h a (aI g 0 N (upd f j x))) (pc + 1) lv st) : V g A κ L Q k n h pc lv (.int x :: .int i :: .ref a :: st) := by
  intro H locs ls hR hS hl
  have h31 : N < 2 ^ 31 := Nat.lt_trans hN (by decide)
  obtain ⟨ws, q0, hP, hD, hq0, h3⟩ := hR.mem hc
  subst hi
  refine va_iast cx.1 cx.2.1 cx.world.1 hP hD hS q0 0 hq0 rfl (vp_in_nI hj h31) hdg (fun H1 locs1 hP1 hD1 hS1 => ?_)
  rw [nI_clamp (Nat.lt_trans hj h31)] at hP1 hD1
  exact kk H1 locs1 ls (R_.set hq0 h3 hP1 hD1) hS1 hl
theorem V.castore {l : Launch} {g : GE} {A : Nat → Prop} {κ : MC} {own : String} {cc : ByteArray} {L : Nat} {ret : Option FieldType} {d mc ms : Nat} {hh : List (Nat × Nat × Nat × Nat)} {yy : MethodName} {Q : State → Prop} {k n : Nat} {h : AHT} {pc : Nat} {lv : List (Nat × Value)} {st : List Value} {a N j : Nat} {i : Int32} {x : Int32} {f : Nat → Int32} (cx : Cx l g A κ own cc L ret d mc ms hh yy) (hc : h a = some (aI g 1 N f)) (hi : i = nI j) (hj : j < N) (hN : N < 2 ^ 24)  (hdg : decode cc pc = .ok (.castore, 1)) (kk : V g A κ L Q k n (up h a (aI g 1 N (upd f j (vp_nar .char x)))) (pc + 1) lv st) : V g A κ L Q k n h pc lv (.int x :: .int i :: .ref a :: st) := by
  intro H locs ls hR hS hl
  have h31 : N < 2 ^ 31 := Nat.lt_trans hN (by decide)
  obtain ⟨ws, q0, hP, hD, hq0, h3⟩ := hR.mem hc
  subst hi
  refine va_cast cx.1 cx.2.1 cx.world.1 hP hD hS q0 1 hq0 rfl (vp_in_nI hj h31) hdg (fun H1 locs1 hP1 hD1 hS1 => ?_)
  rw [nI_clamp (Nat.lt_trans hj h31)] at hP1 hD1
  exact kk H1 locs1 ls (R_.set hq0 h3 hP1 hD1) hS1 hl
theorem V.bastore {l : Launch} {g : GE} {A : Nat → Prop} {κ : MC} {own : String} {cc : ByteArray} {L : Nat} {ret : Option FieldType} {d mc ms : Nat} {hh : List (Nat × Nat × Nat × Nat)} {yy : MethodName} {Q : State → Prop} {k n : Nat} {h : AHT} {pc : Nat} {lv : List (Nat × Value)} {st : List Value} {a N j : Nat} {i : Int32} {x : Int32} {f : Nat → Int32} (cx : Cx l g A κ own cc L ret d mc ms hh yy) (hc : h a = some (aI g 2 N f)) (hi : i = nI j) (hj : j < N) (hN : N < 2 ^ 24)  (hdg : decode cc pc = .ok (.bastore, 1)) (kk : V g A κ L Q k n (up h a (aI g 2 N (upd f j (vp_nar .byte x)))) (pc + 1) lv st) : V g A κ L Q k n h pc lv (.int x :: .int i :: .ref a :: st) := by
  intro H locs ls hR hS hl
  have h31 : N < 2 ^ 31 := Nat.lt_trans hN (by decide)
  obtain ⟨ws, q0, hP, hD, hq0, h3⟩ := hR.mem hc
  subst hi
  refine va_bast cx.1 cx.2.1 cx.world.1 hP hD hS q0 2 hq0 rfl (vp_in_nI hj h31) hdg (fun H1 locs1 hP1 hD1 hS1 => ?_)
  rw [nI_clamp (Nat.lt_trans hj h31)] at hP1 hD1
  exact kk H1 locs1 ls (R_.set hq0 h3 hP1 hD1) hS1 hl
theorem V.lastore {l : Launch} {g : GE} {A : Nat → Prop} {κ : MC} {own : String} {cc : ByteArray} {L : Nat} {ret : Option FieldType} {d mc ms : Nat} {hh : List (Nat × Nat × Nat × Nat)} {yy : MethodName} {Q : State → Prop} {k n : Nat} {h : AHT} {pc : Nat} {lv : List (Nat × Value)} {st : List Value} {a N j : Nat} {i : Int32} {x : Int64} {f : Nat → Int64} (cx : Cx l g A κ own cc L ret d mc ms hh yy) (hc : h a = some (aL g 3 N f)) (hi : i = nI j) (hj : j < N) (hN : N < 2 ^ 24)  (hdg : decode cc pc = .ok (.lastore, 1)) (kk : V g A κ L Q k n (up h a (aL g 3 N (vp_updL f j x))) (pc + 1) lv st) : V g A κ L Q k n h pc lv (.long x :: .int i :: .ref a :: st) := by
  intro H locs ls hR hS hl
  have h31 : N < 2 ^ 31 := Nat.lt_trans hN (by decide)
  obtain ⟨ws, q0, hP, hD, hq0, h3⟩ := hR.mem hc
  subst hi
  refine va_last cx.1 cx.2.1 cx.world.1 hP hD hS q0 3 hq0 rfl (vp_in_nI hj h31) hdg (fun H1 locs1 hP1 hD1 hS1 => ?_)
  rw [nI_clamp (Nat.lt_trans hj h31)] at hP1 hD1
  exact kk H1 locs1 ls (R_.set hq0 h3 hP1 hD1) hS1 hl
theorem V.dastore {l : Launch} {g : GE} {A : Nat → Prop} {κ : MC} {own : String} {cc : ByteArray} {L : Nat} {ret : Option FieldType} {d mc ms : Nat} {hh : List (Nat × Nat × Nat × Nat)} {yy : MethodName} {Q : State → Prop} {k n : Nat} {h : AHT} {pc : Nat} {lv : List (Nat × Value)} {st : List Value} {a N j : Nat} {i : Int32} {x : UInt64} {f : Nat → UInt64} (cx : Cx l g A κ own cc L ret d mc ms hh yy) (hc : h a = some (.inl (g.2.1 4, N, .inr (.inr (.inr (.inl f)))))) (hi : i = nI j) (hj : j < N) (hN : N < 2 ^ 24)  (hdg : decode cc pc = .ok (.dastore, 1)) (kk : V g A κ L Q k n (up h a (.inl (g.2.1 4, N, .inr (.inr (.inr (.inl (vf_upd f j x))))))) (pc + 1) lv st) : V g A κ L Q k n h pc lv (.double x :: .int i :: .ref a :: st) := by
  intro H locs ls hR hS hl
  have h31 : N < 2 ^ 31 := Nat.lt_trans hN (by decide)
  obtain ⟨ws, q0, hP, hD, hq0, h3⟩ := hR.mem hc
  subst hi
  refine va_dast cx.1 cx.2.1 cx.world.1 hP hD hS q0 4 hq0 rfl (vp_in_nI hj h31) hdg (fun H1 locs1 hP1 hD1 hS1 => ?_)
  rw [nI_clamp (Nat.lt_trans hj h31)] at hP1 hD1
  exact kk H1 locs1 ls (R_.set hq0 h3 hP1 hD1) hS1 hl
theorem V.aaload {l : Launch} {g : GE} {A : Nat → Prop} {κ : MC} {own : String} {cc : ByteArray} {L : Nat} {ret : Option FieldType} {d mc ms : Nat} {hh : List (Nat × Nat × Nat × Nat)} {yy : MethodName} {Q : State → Prop} {k n : Nat} {h : AHT} {pc : Nat} {lv : List (Nat × Value)} {st : List Value} {a N j t0 : Nat} {i : Int32} {E : String} {f : Nat → Option Nat} (cx : Cx l g A κ own cc L ret d mc ms hh yy) (hc : h a = some (aQ g t0 N f)) (ht : (tysG g)[t0]? = some (g.2.1 t0, .object E)) (hi : i = nI j) (hj : j < N) (hN : N < 2 ^ 24) (hdg : decode cc pc = .ok (.aaload, 1)) (kk : V g A κ L Q k n h (pc + 1) lv (va_rf (f j) :: st)) : V g A κ L Q k n h pc lv (.int i :: .ref a :: st) := by
  intro H locs ls hR hS hl
  have h31 : N < 2 ^ 31 := Nat.lt_trans hN (by decide)
  obtain ⟨ws, q0, hP, hD, hq0, h3⟩ := hR.mem hc
  subst hi
  refine va_aldq cx.1 cx.2.1 cx.world.1 hP q0 t0 hq0 ht (vp_in_nI hj h31) hdg ?_
  rw [nI_clamp (Nat.lt_trans hj h31)]
  exact kk H locs ls hR hS hl
theorem V.alen {l : Launch} {g : GE} {A : Nat → Prop} {κ : MC} {own : String} {cc : ByteArray} {L : Nat} {ret : Option FieldType} {d mc ms : Nat} {hh : List (Nat × Nat × Nat × Nat)} {yy : MethodName} {Q : State → Prop} {k n : Nat} {h : AHT} {pc : Nat} {lv : List (Nat × Value)} {st : List Value} {a t0 : Nat} {ty : FieldType} {x : Nat × ((Nat → Int32) ⊕ (Nat → Int64) ⊕ (Nat → UInt32) ⊕ (Nat → UInt64) ⊕ (Nat → Option Nat))} (cx : Cx l g A κ own cc L ret d mc ms hh yy) (hc : h a = some (.inl (g.2.1 t0, x))) (ht : (tysG g)[t0]? = some (g.2.1 t0, ty)) (hdg : decode cc pc = .ok (.arraylength, 1)) (kk : V g A κ L Q k n h (pc + 1) lv (.int (nI x.1) :: st)) : V g A κ L Q k n h pc lv (.ref a :: st) := by
  intro H locs ls hR hS hl
  obtain ⟨ws, q0, hP, hD, hq0, h3⟩ := hR.mem hc
  exact va_alen cx.1 cx.2.1 cx.world.1 hP q0 t0 hq0 ht rfl hdg (kk H locs ls hR hS hl)
/-- b is an object of the class C: of the heap, or of the start -/
def Rv (g : GE) (h : AHT) (b : Nat) (C : String) : Prop := (∃ (ci N : Nat) (T : u_T) (fs : List Value), h b = some (.inr (ci, fs)) ∧ vwCl[ci]? = some (C, T, N)) ∨ (∃ F, g.ro b = some (C, F))
theorem Rv.of {g : GE} {h : AHT} {b ci N : Nat} {C : String} {T : u_T} {ty0 : Nat → FieldType} {fs : List Value} (K : Kls ci C T N ty0) (hc : h b = some (.inr (ci, fs))) : Rv g h b C := Or.inl ⟨ci, N, T, fs, hc, K.1⟩
theorem Rv.cell {g : GE} {A : Nat → Prop} {h : AHT} {b : Nat} {C : String} {s : State} {H : Heap} {locs : List Loc} (hW : World g A s s.heap) (hR : R_ g A h H) (hS : va_S A s.heap H locs) (hv : Rv g h b C) : ∃ cell : Cell, H[b]? = some cell ∧ cell.vm.isStatics = false ∧ s.vm.findClass C = some cell.cls := by
  rcases hv with ⟨ci, N, T, fs, hc, hcl⟩ | ⟨F, hF⟩
  · obtain ⟨ws, q0, hP, hD, hq0, -⟩ := hR.mem hc
    exact va_recv hW.1 hP hcl hq0
  · obtain ⟨-, -, -, -, -, -, ⟨-, hro, -⟩, -⟩ := hW
    obtain ⟨cell, h1, h2, h3, -⟩ := ((hro b C F hF).1).kept hS.2.1
    exact ⟨cell, h1, h2, h3⟩
theorem Rv.any {g : GE} {A : Nat → Prop} {h : AHT} {b : Nat} {C E : String} {s : State} {H : Heap} {locs : List Loc} (hW : World g A s s.heap) (hR : R_ g A h H) (hS : va_S A s.heap H locs) (hv : Rv g h b C) (hE : (C = E ∧ ∃ c, ClassAt s C c) ∨ Cond.castable C E ∈ lw_tbl) : va_Any E s H b := by
  obtain ⟨cell, h1, h2, h3⟩ := hv.cell hW hR hS
  obtain ⟨kC, hkC, -⟩ := Vm.findClass_spec h3
  refine ⟨cell, h1, h2, ⟨kC, hkC⟩, fun comp hcomp => ?_⟩
  rcases hE with ⟨rfl, c, hat⟩ | hE
  · rw [h3] at hcomp
    cases hcomp
    have := va_assign hat
    rw [hat.1] at h3
    cases h3
    exact this
  · obtain ⟨c0, t0, f1, f2, f3⟩ := Cond.castable_spec (va_Nw.use (A := #[]) rfl (hW.2.1 _ hE rfl))
    cases f1.symm.trans h3
    cases f2.symm.trans hcomp
    exact f3
theorem V.aastore {l : Launch} {g : GE} {A : Nat → Prop} {κ : MC} {own : String} {cc : ByteArray} {L : Nat} {ret : Option FieldType} {d mc ms : Nat} {hh : List (Nat × Nat × Nat × Nat)} {yy : MethodName} {Q : State → Prop} {k n : Nat} {h : AHT} {pc : Nat} {lv : List (Nat × Value)} {st : List Value} {a b N j t0 : Nat} {i : Int32} {C E : String} {f : Nat → Option Nat} (cx : Cx l g A κ own cc L ret d mc ms hh yy) (hc : h a = some (aQ g t0 N f)) (ht : (tysG g)[t0]? = some (g.2.1 t0, .object E)) (hi : i = nI j) (hj : j < N) (hN : N < 2 ^ 24) (hv : Rv g h b C) (hE : (C = E ∧ ∃ c, ClassAt κ.s C c) ∨ Cond.castable C E ∈ lw_tbl) (hdg : decode cc pc = .ok (.aastore, 1)) (kk : V g A κ L Q k n (up h a (aQ g t0 N (va_up f j (some b)))) (pc + 1) lv st) : V g A κ L Q k n h pc lv (.ref b :: .int i :: .ref a :: st) := by
  intro H locs ls hR hS hl
  have h31 : N < 2 ^ 31 := Nat.lt_trans hN (by decide)
  obtain ⟨ws, q0, hP, hD, hq0, h3⟩ := hR.mem hc
  subst hi
  refine va_astqM cx.1 cx.2.1 cx.world.1 hP hD hS q0 t0 hq0 ht (hv.any cx.world hR hS hE) (vp_in_nI hj h31) hdg (fun H1 locs1 hP1 hD1 hS1 => ?_)
  rw [nI_clamp (Nat.lt_trans hj h31)] at hP1 hD1
  exact kk H1 locs1 ls (R_.set hq0 h3 hP1 hD1) hS1 hl
theorem V.aastoreN {l : Launch} {g : GE} {A : Nat → Prop} {κ : MC} {own : String} {cc : ByteArray} {L : Nat} {ret : Option FieldType} {d mc ms : Nat} {hh : List (Nat × Nat × Nat × Nat)} {yy : MethodName} {Q : State → Prop} {k n : Nat} {h : AHT} {pc : Nat} {lv : List (Nat × Value)} {st : List Value} {a N j t0 : Nat} {i : Int32} {E : String} {f : Nat → Option Nat} (cx : Cx l g A κ own cc L ret d mc ms hh yy) (hc : h a = some (aQ g t0 N f)) (ht : (tysG g)[t0]? = some (g.2.1 t0, .object E)) (hi : i = nI j) (hj : j < N) (hN : N < 2 ^ 24) (hdg : decode cc pc = .ok (.aastore, 1)) (kk : V g A κ L Q k n (up h a (aQ g t0 N (va_up f j none))) (pc + 1) lv st) : V g A κ L Q k n h pc lv (.null :: .int i :: .ref a :: st) := by
  intro H locs ls hR hS hl
  have h31 : N < 2 ^ 31 := Nat.lt_trans hN (by decide)
  obtain ⟨ws, q0, hP, hD, hq0, h3⟩ := hR.mem hc
  subst hi
  refine va_astqN cx.1 cx.2.1 cx.world.1 hP hD hS q0 t0 hq0 ht (vp_in_nI hj h31) hdg (fun H1 locs1 hP1 hD1 hS1 => ?_)
  rw [nI_clamp (Nat.lt_trans hj h31)] at hP1 hD1
  exact kk H1 locs1 ls (R_.set hq0 h3 hP1 hD1) hS1 hl
theorem V.newq {l : Launch} {g : GE} {A : Nat → Prop} {κ : MC} {own : String} {cc : ByteArray} {L : Nat} {ret : Option FieldType} {d mc ms : Nat} {hh : List (Nat × Nat × Nat × Nat)} {yy : MethodName} {Q : State → Prop} {k n : Nat} {h : AHT} {pc : Nat} {lv : List (Nat × Value)} {st : List Value} {ix t0 N : Nat} {x : Int32} {E : String} (cx : Cx l g A κ own cc L ret d mc ms hh yy) (hcl : Cond.classLink own ix E ∈ lw_all) (hE : E ∈ aos) (ht : (tysG g)[t0]? = some (g.2.1 t0, .object E)) (hx : x = nI N) (hN : N < 2 ^ 24) (hkc : k + 1 ≤ mc) (hks : n + N ≤ ms) (hdg : decode cc pc = .ok (.anewarray ix, 3)) (kk : ∀ q : Nat, h q = none → V g A κ L Q (k + 1) (n + N) (up h q (aQ g t0 N (fun _ => none))) (pc + 3) lv (.ref q :: st)) : V g A κ L Q k n h pc lv (.int x :: st) := by
  intro H locs ls hR hS hl
  obtain ⟨ws, hP, hD, h3⟩ := hR
  have h31 : N < 2 ^ 31 := Nat.lt_trans hN (by decide)
  refine va_newq cx.1 cx.2.1 cx.own (cx.hts _ hcl) (cx.world.2.2.2.1 E hE) cx.world.1 hP hD hS cx.world.2.2.2.2.2.2.1.1 (N' := N) (by rw [hx]; exact nI_pos h31) (by rw [hx]; exact nI_clamp h31) (by omega) (by rw [cx.R]; exact hkc) (by rw [cx.R]; exact hks) hdg (fun q cA H1 hK1 hP1 hD1 hS1 => ?_)
  obtain ⟨kA, comp, -, -, -, e1⟩ := (cx.world.1.2 t0 _ ht).2
  obtain ⟨kA', comp', -, -, -, e2⟩ := (hK1.2 (tysG g).length (cA, .object E) (by simp)).2
  cases Option.some.inj (e2.symm.trans e1)
  exact kk q (R_.push h3 hP1 hD1).2 H1 locs ls (R_.push h3 hP1 hD1).1 hS1 hl
theorem V.gets {l : Launch} {g : GE} {A : Nat → Prop} {κ : MC} {own : String} {cc : ByteArray} {L : Nat} {ret : Option FieldType} {d mc ms : Nat} {hh : List (Nat × Nat × Nat × Nat)} {yy : MethodName} {Q : State → Prop} {k n : Nat} {h : AHT} {pc : Nat} {lv : List (Nat × Value)} {st : List Value} {ix : Nat} {C nm ds ref : String} {v : Value} (cx : Cx l g A κ own cc L ret d mc ms hh yy) (hz : (C, nm, ds, v) ∈ zs g) (hq : Cond.fieldLink own ix ref nm ds ∈ lw_all) (href : ref = C) (hdg : decode cc pc = .ok (.getstatic ix, 3)) (kk : V g A κ L Q k n h (pc + 3) lv (v :: st)) : V g A κ L Q k n h pc lv st := by
  intro H locs ls hR hS hl
  obtain ⟨-, -, -, -, -, -, ⟨-, -, -, hzs, -⟩, -⟩ := cx.world
  exact va_gets cx.1 cx.2.1 (hzs _ hz) hS cx.own (cx.hts _ hq) (fun x hx => by rw [href]; exact hx) hdg (kk H locs ls hR hS hl)
theorem V.getsN {l : Launch} {g : GE} {A : Nat → Prop} {κ : MC} {own : String} {cc : ByteArray} {L : Nat} {ret : Option FieldType} {d mc ms : Nat} {hh : List (Nat × Nat × Nat × Nat)} {yy : MethodName} {Q : State → Prop} {k n : Nat} {h : AHT} {pc : Nat} {lv : List (Nat × Value)} {st : List Value} {ix : Nat} {C nm ds ref host : String} {v : Value} (cx : Cx l g A κ own cc L ret d mc ms hh yy) (hz : (C, nm, ds, v) ∈ zs g) (hq : Cond.fieldLinkNest own ix ref nm ds host ∈ lw_tbl) (href : ref = C) (hdg : decode cc pc = .ok (.getstatic ix, 3)) (kk : V g A κ L Q k n h (pc + 3) lv (v :: st)) : V g A κ L Q k n h pc lv st := by
  intro H locs ls hR hS hl
  obtain ⟨-, hnw, -, -, -, -, ⟨-, -, -, hzs, -⟩, -⟩ := cx.world
  exact va_getsN cx.1 cx.2.1 (hzs _ hz) hS cx.own (va_Nw.use rfl (hnw _ hq rfl)) (fun x hx => by rw [href]; exact hx) hdg (kk H locs ls hR hS hl)
theorem V.ldcS {l : Launch} {g : GE} {A : Nat → Prop} {κ : MC} {own : String} {cc : ByteArray} {L : Nat} {ret : Option FieldType} {d mc ms : Nat} {hh : List (Nat × Nat × Nat × Nat)} {yy : MethodName} {Q : State → Prop} {k n : Nat} {h : AHT} {pc : Nat} {lv : List (Nat × Value)} {st : List Value} {ix e9 : Nat} {tx : String} (cx : Cx l g A κ own cc L ret d mc ms hh yy) (hz : (own, ix, tx, e9) ∈ strs) (hdg : decode cc pc = .ok (.ldc ix, 2)) (kk : V g A κ L Q k n h (pc + 2) lv (.ref (g.ad 2 e9) :: st)) : V g A κ L Q k n h pc lv st := by
  intro H locs ls hR hS hl
  obtain ⟨-, -, -, -, -, hst, -⟩ := cx.world
  exact va_ldcS cx.1 cx.2.1 cx.own (hst _ hz) hdg (kk H locs ls hR hS hl)
theorem V.instY {l : Launch} {g : GE} {A : Nat → Prop} {κ : MC} {own : String} {cc : ByteArray} {L : Nat} {ret : Option FieldType} {d mc ms : Nat} {hh : List (Nat × Nat × Nat × Nat)} {yy : MethodName} {Q : State → Prop} {k n : Nat} {h : AHT} {pc : Nat} {lv : List (Nat × Value)} {st : List Value} {a ix : Nat} {C E : String} (cx : Cx l g A κ own cc L ret d mc ms hh yy) (hv : Rv g h a C) (hcl : Cond.classLink own ix E ∈ lw_all) (hca : Cond.castable C E ∈ lw_tbl) (hdg : decode cc pc = .ok (.instanceof ix, 3)) (kk : V g A κ L Q k n h (pc + 3) lv (.int 1 :: st)) : V g A κ L Q k n h pc lv (.ref a :: st) := by
  intro H locs ls hR hS hl
  exact va_instY cx.1 cx.2.1 cx.own (cx.hts _ hcl) (cx.world.2.1 _ hca rfl) (hv.cell cx.world hR hS) hdg (kk H locs ls hR hS hl)
theorem V.instS {l : Launch} {g : GE} {A : Nat → Prop} {κ : MC} {own : String} {cc : ByteArray} {L : Nat} {ret : Option FieldType} {d mc ms : Nat} {hh : List (Nat × Nat × Nat × Nat)} {yy : MethodName} {Q : State → Prop} {k n : Nat} {h : AHT} {pc : Nat} {lv : List (Nat × Value)} {st : List Value} {a ix : Nat} (cx : Cx l g A κ own cc L ret d mc ms hh yy) {ci N : Nat} {C : String} {T : u_T} {ty0 : Nat → FieldType} (K : Kls ci C T N ty0) (hv : Rv g h a C) (hcl : Cond.classLink own ix C ∈ lw_all) (hdg : decode cc pc = .ok (.instanceof ix, 3)) (kk : V g A κ L Q k n h (pc + 3) lv (.int 1 :: st)) : V g A κ L Q k n h pc lv (.ref a :: st) := by
  intro H locs ls hR hS hl
  exact va_instS cx.1 cx.2.1 cx.own (cx.hts _ hcl) (cx.world.1.1 ci _ K.1).2 (hv.cell cx.world hR hS) hdg (kk H locs ls hR hS hl)
theorem V.castY {l : Launch} {g : GE} {A : Nat → Prop} {κ : MC} {own : String} {cc : ByteArray} {L : Nat} {ret : Option FieldType} {d mc ms : Nat} {hh : List (Nat × Nat × Nat × Nat)} {yy : MethodName} {Q : State → Prop} {k n : Nat} {h : AHT} {pc : Nat} {lv : List (Nat × Value)} {st : List Value} {a ix : Nat} {C E : String} (cx : Cx l g A κ own cc L ret d mc ms hh yy) (hv : Rv g h a C) (hcl : Cond.classLink own ix E ∈ lw_all) (hca : Cond.castable C E ∈ lw_tbl) (hdg : decode cc pc = .ok (.checkcast ix, 3)) (kk : V g A κ L Q k n h (pc + 3) lv (.ref a :: st)) : V g A κ L Q k n h pc lv (.ref a :: st) := by
  intro H locs ls hR hS hl
  exact va_castY cx.1 cx.2.1 cx.own (cx.hts _ hcl) (cx.world.2.1 _ hca rfl) (hv.cell cx.world hR hS) hdg (kk H locs ls hR hS hl)
theorem V.castS {l : Launch} {g : GE} {A : Nat → Prop} {κ : MC} {own : String} {cc : ByteArray} {L : Nat} {ret : Option FieldType} {d mc ms : Nat} {hh : List (Nat × Nat × Nat × Nat)} {yy : MethodName} {Q : State → Prop} {k n : Nat} {h : AHT} {pc : Nat} {lv : List (Nat × Value)} {st : List Value} {a ix : Nat} (cx : Cx l g A κ own cc L ret d mc ms hh yy) {ci N : Nat} {C : String} {T : u_T} {ty0 : Nat → FieldType} (K : Kls ci C T N ty0) (hv : Rv g h a C) (hcl : Cond.classLink own ix C ∈ lw_all) (hdg : decode cc pc = .ok (.checkcast ix, 3)) (kk : V g A κ L Q k n h (pc + 3) lv (.ref a :: st)) : V g A κ L Q k n h pc lv (.ref a :: st) := by
  intro H locs ls hR hS hl
  exact va_castS cx.1 cx.2.1 cx.own (cx.hts _ hcl) (cx.world.1.1 ci _ K.1).2 (hv.cell cx.world hR hS) hdg (kk H locs ls hR hS hl)
theorem V.instNo {l : Launch} {g : GE} {A : Nat → Prop} {κ : MC} {own : String} {cc : ByteArray} {L : Nat} {ret : Option FieldType} {d mc ms : Nat} {hh : List (Nat × Nat × Nat × Nat)} {yy : MethodName} {Q : State → Prop} {k n : Nat} {h : AHT} {pc : Nat} {lv : List (Nat × Value)} {st : List Value} {a ix : Nat} {C E : String} (cx : Cx l g A κ own cc L ret d mc ms hh yy) (hv : Rv g h a C) (hcl : Cond.classLink own ix E ∈ lw_all) (hca : (C, E) ∈ ncs) (hdg : decode cc pc = .ok (.instanceof ix, 3)) (kk : V g A κ L Q k n h (pc + 3) lv (.int 0 :: st)) : V g A κ L Q k n h pc lv (.ref a :: st) := by
  intro H locs ls hR hS hl
  exact va_instNo cx.1 cx.2.1 cx.own (cx.hts _ hcl) (cx.world.2.2.2.2.1 _ hca) (hv.cell cx.world hR hS) hdg (kk H locs ls hR hS hl)
theorem V.objInit {l : Launch} {g : GE} {A : Nat → Prop} {κ : MC} {own : String} {cc : ByteArray} {L : Nat} {ret : Option FieldType} {d mc ms : Nat} {hh : List (Nat × Nat × Nat × Nat)} {yy : MethodName} {Q : State → Prop} {k n : Nat} {h : AHT} {pc : Nat} {lv : List (Nat × Value)} {st : List Value} {a ix : Nat} (cx : Cx l g A κ own cc L ret d mc ms hh yy) (hlk : Cond.methodLink own ix Lib.objectInit ∈ lw_all) (hin : Cond.instanceMethod Lib.objectInit ∈ lw_all) (hco : Cond.code Lib.objectInit ⟨#[0xb1]⟩ 1 none ∈ lw_all) (hd : 1 ≤ d) (hcat : (st.map fun v => v.category).sum ≤ 8) (hdg : decode cc pc = .ok (.invokespecial ix, 3)) (kk : V g A κ L Q k n h (pc + 3) lv st) : V g A κ L Q k n h pc lv (.ref a :: st) := by
  intro H locs ls hR hS hl
  refine W.objInit cx.1 cx.2.1 cx.own (cx.hts _ hlk) (cx.hts _ hin) (cx.hts _ hco) rfl (by rw [cx.ml]; exact hl.1) rfl hdg (by rw [cx.R]; exact hd) ?_ (kk H locs ls hR hS hl)
  have := lv_room (m := κ.m) (pc := pc) (ls := ls) (rest := Value.ref a :: st) hcat
  rw [cx.R]
  show _ + 12 ≤ 100 * d
  omega
theorem V.run {l : Launch} {g : GE} {A : Nat → Prop} {κ : MC} {L : Nat} {Q : State → Prop} {k n : Nat} {h : AHT} {pc : Nat} {lv : List (Nat × Value)} {mc' ms' : Nat} {a9 : Array Value} {rest st0 : List Value} {post : Option Value → AHT → Prop} {px : String → Nat → AHT → Prop} (hr : ∀ (H : Heap) (locs : List Loc) (ls : Array Slot), R_ g A h H → va_S A κ.s.heap H locs → lv_has ls L lv → vx_Run κ.p κ.l κ.e κ.R κ.s κ.m κ.args κ.below κ.meth κ.c H locs k n mc' ms' (F0 κ.m pc ls st0) rest (UQ g A post a9) (UX g A px) A) (kx : ∀ (E : String) (q : Nat) (h' : AHT), px E q h' → VX g A κ L Q (k + mc') (n + ms') h' pc lv E q) (kk : ∀ (v : Option Value) (h' : AHT), post v h' → V g A κ L Q (k + mc') (n + ms') h' (pc + 3) lv (v.toList ++ rest)) : V g A κ L Q k n h pc lv st0 := by
  intro H locs ls hR hS hl T hT X
  rcases hr H locs ls hR hS hl T hT X with ⟨v, st₀, t, T', L', h0, X', hL, e1, e2, ⟨⟨v', h', hv, hp, hRt⟩, hF⟩, st⟩ | ⟨q, st₀, t, T', L', E, ce, h0, X', hL, e1, e2, ⟨⟨h', hp, hRt⟩, hF⟩, hce, hcv, hcl, st⟩
  · cases hv
    obtain ⟨k1, k2, k3⟩ := vx_keep h0 e1 hS (fun _ _ h => h) (fun _ h => h) hL hF
    obtain ⟨t2, a1, b1⟩ := kk v h' hp T'.heap (locs ++ L') ls (by rw [e1]; exact hRt) k3 hl T' rfl X'
    exact ⟨t2, st t2 a1, b1⟩
  · obtain ⟨k1, k2, k3⟩ := vx_keep h0 e1 hS (fun _ _ h => h) (fun _ h => h) hL hF
    obtain ⟨t2, a1, b1⟩ := kx E q h' hp T'.heap (locs ++ L') ls rest ce (by rw [e1]; exact hRt) k3 hl (by rw [e1]; exact hce) hcv hcl T' rfl X'
    exact ⟨t2, st.trans a1, b1⟩
theorem V.run5 {l : Launch} {g : GE} {A : Nat → Prop} {κ : MC} {L : Nat} {Q : State → Prop} {k n : Nat} {h : AHT} {pc : Nat} {lv : List (Nat × Value)} {mc' ms' : Nat} {a9 : Array Value} {rest st0 : List Value} {post : Option Value → AHT → Prop} {px : String → Nat → AHT → Prop} (hr : ∀ (H : Heap) (locs : List Loc) (ls : Array Slot), R_ g A h H → va_S A κ.s.heap H locs → lv_has ls L lv → vx_Run5 κ.p κ.l κ.e κ.R κ.s κ.m κ.args κ.below κ.meth κ.c H locs k n mc' ms' (F0 κ.m pc ls st0) rest (UQ g A post a9) (UX g A px) A) (kx : ∀ (E : String) (q : Nat) (h' : AHT), px E q h' → VX g A κ L Q (k + mc') (n + ms') h' pc lv E q) (kk : ∀ (v : Option Value) (h' : AHT), post v h' → V g A κ L Q (k + mc') (n + ms') h' (pc + 5) lv (v.toList ++ rest)) : V g A κ L Q k n h pc lv st0 := by
  intro H locs ls hR hS hl T hT X
  rcases hr H locs ls hR hS hl T hT X with ⟨v, st₀, t, T', L', h0, X', hL, e1, e2, ⟨⟨v', h', hv, hp, hRt⟩, hF⟩, st⟩ | ⟨q, st₀, t, T', L', E, ce, h0, X', hL, e1, e2, ⟨⟨h', hp, hRt⟩, hF⟩, hce, hcv, hcl, st⟩
  · cases hv
    obtain ⟨k1, k2, k3⟩ := vx_keep h0 e1 hS (fun _ _ h => h) (fun _ h => h) hL hF
    obtain ⟨t2, a1, b1⟩ := kk v h' hp T'.heap (locs ++ L') ls (by rw [e1]; exact hRt) k3 hl T' rfl X'
    exact ⟨t2, st t2 a1, b1⟩
  · obtain ⟨k1, k2, k3⟩ := vx_keep h0 e1 hS (fun _ _ h => h) (fun _ h => h) hL hF
    obtain ⟨t2, a1, b1⟩ := kx E q h' hp T'.heap (locs ++ L') ls rest ce (by rw [e1]; exact hRt) k3 hl (by rw [e1]; exact hce) hcv hcl T' rfl X'
    exact ⟨t2, st.trans a1, b1⟩
theorem UPc.blind {g : GE} {A : Nat → Prop} {av : List Value} {h : AHT} : FrameBlind (UPc g A av h) := fun a U gf mk hq => ⟨hq.1, hq.2.1.to (U := U.calling gf mk a) (State.WarmedH.refl U) (Nat.le_refl _) (fun _ _ _ => rfl), hq.2.2⟩
theorem UPc.now {g : GE} {A : Nat → Prop} {av : List Value} {h : AHT} {s U : State} {H : Heap} {locs : List Loc} (hW0 : World g A s s.heap) (hS : va_S A s.heap H locs) (hR : R_ g A h H) (hU : U.heap = H) (hW : s.WarmedH U.vm) : UPc g A av h av.toArray U := ⟨rfl, hW0.to hW (by rw [hU]; exact hS.1) (fun q h1 h2 => by rw [hU]; exact hS.2.1 q h1 h2), by rw [hU]; exact hR⟩
theorem V.callV {l : Launch} {g : GE} {A : Nat → Prop} {κ : MC} {own : String} {cc : ByteArray} {L : Nat} {ret : Option FieldType} {d mc ms : Nat} {hh : List (Nat × Nat × Nat × Nat)} {yy : MethodName} {Q : State → Prop} {k n : Nat} {h : AHT} {pc : Nat} {lv : List (Nat × Value)} {b : Nat} {C : String} {y : MethodName} {ix d' mc' ms' : Nat} {As rest st0 : List Value} {post : Option Value → AHT → Prop} {px : String → Nat → AHT → Prop} (cx : Cx l g A κ own cc L ret d mc ms hh yy) (hM : U_ l g A y d' mc' ms' (.ref b :: As) h post px) (hy : y.cls = C) (hlk : Cond.methodLink own ix y ∈ lw_all) (hin : Cond.instanceMethod y ∈ lw_all) (hsel : Cond.selects C y y ∈ lw_all) (hrv : Rv g h b C) {na : Nat} (hna : As.length = na) (hn : (parseMethodDescriptor y.desc).map (fun d => d.parameters.length) = some na) (hcat : (rest.map fun v => v.category).sum ≤ 8) (hd : d' < d) (hkc : k + mc' ≤ mc) (hks : n + ms' ≤ ms) (hst : st0 = As.reverse ++ .ref b :: rest) (hdg : decode cc pc = .ok (.invokevirtual ix, 3)) (kx : ∀ (E : String) (q : Nat) (h' : AHT), px E q h' → VX g A κ L Q (k + mc') (n + ms') h' pc lv E q) (kk : ∀ (v : Option Value) (h' : AHT), post v h' → V g A κ L Q (k + mc') (n + ms') h' (pc + 3) lv (v.toList ++ rest)) : V g A κ L Q k n h pc lv st0 := by
  subst hst
  subst hna
  obtain ⟨bytes, maxL, rt, hmh, hini, hL80, hir, hcode, hM⟩ := hM
  refine V.run (l := l) (a9 := (Value.ref b :: As).toArray) (fun H locs ls hR hS hl => ?_) kx kk
  have hdR : (rmd d' mc' ms').frames + 1 ≤ κ.R.frames := by rw [cx.R]; exact hd
  have hlR : 8 + (maxL + 11) + (rmd d' mc' ms').locals ≤ κ.R.locals := by rw [cx.R]; show 8 + (maxL + 11) + 100 * d' ≤ 100 * d; omega
  have hcR : k + mc' ≤ κ.R.cells ∧ n + ms' ≤ κ.R.slots := by rw [cx.R]; exact ⟨hkc, hks⟩
  have hle := cx.le
  subst hle
  exact vx_runV (nL := L) ⟨cx.1, cx.2.1, cx.ml, cx.own, cx.hts⟩ hM (cwV As.length cx.hts (lw_V hlk hin hsel (hy ▸ hini) hcode) rfl rfl rfl ⟨hy, hmh.1, hmh.2, hn⟩ ⟨hdR, hlR⟩) ⟨UPc.blind, hrv.cell cx.world hR hS, fun U hU hW => UPc.now cx.world hS hR hU hW⟩ rfl rfl hl.1 rfl (lv_room hcat) hdg hcR
theorem V.callVw {l : Launch} {g : GE} {A : Nat → Prop} {κ : MC} {own : String} {cc : ByteArray} {L : Nat} {ret : Option FieldType} {d mc ms : Nat} {hh : List (Nat × Nat × Nat × Nat)} {yy : MethodName} {Q : State → Prop} {k n : Nat} {h : AHT} {pc : Nat} {lv : List (Nat × Value)} {b : Nat} {C : String} {y : MethodName} {ix d' mc' ms' : Nat} {As rest st0 : List Value} {post : Option Value → AHT → Prop} {px : String → Nat → AHT → Prop} (cx : Cx l g A κ own cc L ret d mc ms hh yy) (hM : Uw_ l g A y d' mc' ms' (.ref b :: As) h post px) (hy : y.cls = C) (hlk : Cond.methodLink own ix y ∈ lw_all) (hin : Cond.instanceMethod y ∈ lw_all) (hsel : Cond.selects C y y ∈ lw_all) (hrv : Rv g h b C) {na : Nat} (hna : As.length = na) (hn : (parseMethodDescriptor y.desc).map (fun d => d.parameters.length) = some na) (hcat : (rest.map fun v => v.category).sum ≤ 8) (hd : d' < d) (hkc : k + mc' ≤ mc) (hks : n + ms' ≤ ms) (hst : st0 = As.reverse ++ .ref b :: rest) (hdg : decode cc pc = .ok (.invokevirtual ix, 3)) (kx : ∀ (E : String) (q : Nat) (h' : AHT), px E q h' → VX g A κ L Q (k + mc') (n + ms') h' pc lv E q) (kk : ∀ (v : Option Value) (h' : AHT), post v h' → V g A κ L Q (k + mc') (n + ms') h' (pc + 3) lv (v.toList ++ rest)) : V g A κ L Q k n h pc lv st0 := by
  subst hst
  subst hna
  obtain ⟨bytes, maxL, rt, hh9, hmh, hini, hL80, hir, hcode, hM⟩ := hM
  refine V.run (l := l) (a9 := (Value.ref b :: As).toArray) (fun H locs ls hR hS hl => ?_) kx kk
  have hdR : (rmd d' mc' ms').frames + 1 ≤ κ.R.frames := by rw [cx.R]; exact hd
  have hlR : 8 + (maxL + 11) + (rmd d' mc' ms').locals ≤ κ.R.locals := by rw [cx.R]; show 8 + (maxL + 11) + 100 * d' ≤ 100 * d; omega
  have hcR : k + mc' ≤ κ.R.cells ∧ n + ms' ≤ κ.R.slots := by rw [cx.R]; exact ⟨hkc, hks⟩
  have hle := cx.le
  subst hle
  exact vx_runVX (nL := L) ⟨cx.1, cx.2.1, cx.ml, cx.own, cx.hts⟩ hM (vx_cwVW As.length cx.hts (lw_VW hlk hin hsel (hy ▸ hini) hcode) rfl rfl rfl ⟨hy, hmh.1, hmh.2, hn⟩ ⟨hdR, hlR⟩) ⟨UPc.blind, hrv.cell cx.world hR hS, fun U hU hW => UPc.now cx.world hS hR hU hW⟩ rfl rfl hl.1 rfl (lv_room hcat) hdg hcR
theorem V.callS {l : Launch} {g : GE} {A : Nat → Prop} {κ : MC} {own : String} {cc : ByteArray} {L : Nat} {ret : Option FieldType} {d mc ms : Nat} {hh : List (Nat × Nat × Nat × Nat)} {yy : MethodName} {Q : State → Prop} {k n : Nat} {h : AHT} {pc : Nat} {lv : List (Nat × Value)} {y : MethodName} {ix d' mc' ms' : Nat} {As rest st0 : List Value} {post : Option Value → AHT → Prop} {px : String → Nat → AHT → Prop} (cx : Cx l g A κ own cc L ret d mc ms hh yy) (hM : U_ l g A y d' mc' ms' As h post px) (hlk : Cond.methodLink own ix y ∈ lw_all) (hstt : Cond.static y ∈ lw_all)  {na : Nat} (hna : As.length = na) (hn : (parseMethodDescriptor y.desc).map (fun d => d.parameters.length) = some na) (hcat : (rest.map fun v => v.category).sum ≤ 8) (hd : d' < d) (hkc : k + mc' ≤ mc) (hks : n + ms' ≤ ms) (hst : st0 = As.reverse ++ rest) (hdg : decode cc pc = .ok (.invokestatic ix, 3)) (kx : ∀ (E : String) (q : Nat) (h' : AHT), px E q h' → VX g A κ L Q (k + mc') (n + ms') h' pc lv E q) (kk : ∀ (v : Option Value) (h' : AHT), post v h' → V g A κ L Q (k + mc') (n + ms') h' (pc + 3) lv (v.toList ++ rest)) : V g A κ L Q k n h pc lv st0 := by
  subst hst
  subst hna
  obtain ⟨bytes, maxL, rt, hmh, hini, hL80, hir, hcode, hM⟩ := hM
  refine V.run (l := l) (a9 := As.toArray) (fun H locs ls hR hS hl => ?_) kx kk
  have hdR : (rmd d' mc' ms').frames + 1 ≤ κ.R.frames := by rw [cx.R]; exact hd
  have hlR : 8 + (maxL + 11) + (rmd d' mc' ms').locals ≤ κ.R.locals := by rw [cx.R]; show 8 + (maxL + 11) + 100 * d' ≤ 100 * d; omega
  have hcR : k + mc' ≤ κ.R.cells ∧ n + ms' ≤ κ.R.slots := by rw [cx.R]; exact ⟨hkc, hks⟩
  have hle := cx.le
  subst hle
  exact vx_runS (nL := L) ⟨cx.1, cx.2.1, cx.ml, cx.own, cx.hts⟩ hM (va_cwS As.length cx.hts (lw_S hlk hstt hini hcode) rfl rfl rfl ⟨hmh.1, hmh.2, hn⟩ ⟨hdR, hlR⟩) ⟨UPc.blind, fun U hU hW => UPc.now cx.world hS hR hU hW⟩ rfl rfl hl.1 rfl (lv_room hcat) hdg hcR
theorem V.callSw {l : Launch} {g : GE} {A : Nat → Prop} {κ : MC} {own : String} {cc : ByteArray} {L : Nat} {ret : Option FieldType} {d mc ms : Nat} {hh : List (Nat × Nat × Nat × Nat)} {yy : MethodName} {Q : State → Prop} {k n : Nat} {h : AHT} {pc : Nat} {lv : List (Nat × Value)} {y : MethodName} {ix d' mc' ms' : Nat} {As rest st0 : List Value} {post : Option Value → AHT → Prop} {px : String → Nat → AHT → Prop} (cx : Cx l g A κ own cc L ret d mc ms hh yy) (hM : Uw_ l g A y d' mc' ms' As h post px) (hlk : Cond.methodLink own ix y ∈ lw_all) (hstt : Cond.static y ∈ lw_all)  {na : Nat} (hna : As.length = na) (hn : (parseMethodDescriptor y.desc).map (fun d => d.parameters.length) = some na) (hcat : (rest.map fun v => v.category).sum ≤ 8) (hd : d' < d) (hkc : k + mc' ≤ mc) (hks : n + ms' ≤ ms) (hst : st0 = As.reverse ++ rest) (hdg : decode cc pc = .ok (.invokestatic ix, 3)) (kx : ∀ (E : String) (q : Nat) (h' : AHT), px E q h' → VX g A κ L Q (k + mc') (n + ms') h' pc lv E q) (kk : ∀ (v : Option Value) (h' : AHT), post v h' → V g A κ L Q (k + mc') (n + ms') h' (pc + 3) lv (v.toList ++ rest)) : V g A κ L Q k n h pc lv st0 := by
  subst hst
  subst hna
  obtain ⟨bytes, maxL, rt, hh9, hmh, hini, hL80, hir, hcode, hM⟩ := hM
  refine V.run (l := l) (a9 := As.toArray) (fun H locs ls hR hS hl => ?_) kx kk
  have hdR : (rmd d' mc' ms').frames + 1 ≤ κ.R.frames := by rw [cx.R]; exact hd
  have hlR : 8 + (maxL + 11) + (rmd d' mc' ms').locals ≤ κ.R.locals := by rw [cx.R]; show 8 + (maxL + 11) + 100 * d' ≤ 100 * d; omega
  have hcR : k + mc' ≤ κ.R.cells ∧ n + ms' ≤ κ.R.slots := by rw [cx.R]; exact ⟨hkc, hks⟩
  have hle := cx.le
  subst hle
  exact vx_runSX (nL := L) ⟨cx.1, cx.2.1, cx.ml, cx.own, cx.hts⟩ hM (vx_cwSW As.length cx.hts (lw_SW hlk hstt hini hcode) rfl rfl rfl ⟨hmh.1, hmh.2, hn⟩ ⟨hdR, hlR⟩) ⟨UPc.blind, fun U hU hW => UPc.now cx.world hS hR hU hW⟩ rfl rfl hl.1 rfl (lv_room hcat) hdg hcR
theorem V.callI {l : Launch} {g : GE} {A : Nat → Prop} {κ : MC} {own : String} {cc : ByteArray} {L : Nat} {ret : Option FieldType} {d mc ms : Nat} {hh : List (Nat × Nat × Nat × Nat)} {yy : MethodName} {Q : State → Prop} {k n : Nat} {h : AHT} {pc : Nat} {lv : List (Nat × Value)} {b : Nat} {y : MethodName} {ix d' mc' ms' : Nat} {As rest st0 : List Value} {post : Option Value → AHT → Prop} {px : String → Nat → AHT → Prop} (cx : Cx l g A κ own cc L ret d mc ms hh yy) (hM : U_ l g A y d' mc' ms' (.ref b :: As) h post px) (hlk : Cond.methodLink own ix y ∈ lw_all) (hin : Cond.instanceMethod y ∈ lw_all) (hy1 : y.name = "<init>")  {na : Nat} (hna : As.length = na) (hn : (parseMethodDescriptor y.desc).map (fun d => d.parameters.length) = some na) (hcat : (rest.map fun v => v.category).sum ≤ 8) (hd : d' < d) (hkc : k + mc' ≤ mc) (hks : n + ms' ≤ ms) (hst : st0 = As.reverse ++ .ref b :: rest) (hdg : decode cc pc = .ok (.invokespecial ix, 3)) (kx : ∀ (E : String) (q : Nat) (h' : AHT), px E q h' → VX g A κ L Q (k + mc') (n + ms') h' pc lv E q) (kk : ∀ (v : Option Value) (h' : AHT), post v h' → V g A κ L Q (k + mc') (n + ms') h' (pc + 3) lv (v.toList ++ rest)) : V g A κ L Q k n h pc lv st0 := by
  subst hst
  subst hna
  obtain ⟨bytes, maxL, rt, hmh, hini, hL80, hir, hcode, hM⟩ := hM
  refine V.run (l := l) (a9 := (Value.ref b :: As).toArray) (fun H locs ls hR hS hl => ?_) kx kk
  have hdR : (rmd d' mc' ms').frames + 1 ≤ κ.R.frames := by rw [cx.R]; exact hd
  have hlR : 8 + (maxL + 11) + (rmd d' mc' ms').locals ≤ κ.R.locals := by rw [cx.R]; show 8 + (maxL + 11) + 100 * d' ≤ 100 * d; omega
  have hcR : k + mc' ≤ κ.R.cells ∧ n + ms' ≤ κ.R.slots := by rw [cx.R]; exact ⟨hkc, hks⟩
  have hle := cx.le
  subst hle
  cases hir hy1
  exact vx_runI (nL := L) ⟨cx.1, cx.2.1, cx.ml, cx.own, cx.hts⟩ hM (cwI As.length cx.hts (lw_meth hcode) rfl rfl rfl (cx.hts _ hini) (cx.hts _ hlk) (cx.hts _ hin) hy1 ⟨hmh.1, hmh.2, hn⟩ ⟨hdR, hlR⟩) ⟨UPc.blind, fun U hU hW => UPc.now cx.world hS hR hU hW⟩ rfl rfl hl.1 rfl (lv_room hcat) hdg hcR
theorem V.callU {l : Launch} {g : GE} {A : Nat → Prop} {κ : MC} {own : String} {cc : ByteArray} {L : Nat} {ret : Option FieldType} {d mc ms : Nat} {hh : List (Nat × Nat × Nat × Nat)} {yy : MethodName} {Q : State → Prop} {k n : Nat} {h : AHT} {pc : Nat} {lv : List (Nat × Value)} {b : Nat} {C owner : String} {x : MethodName} {y : MethodName} {ix d' mc' ms' : Nat} {As rest st0 : List Value} {post : Option Value → AHT → Prop} {px : String → Nat → AHT → Prop} (cx : Cx l g A κ own cc L ret d mc ms hh yy) (hM : U_ l g A y d' mc' ms' (.ref b :: As) h post px) (hyx : y = ⟨owner, x.name, x.desc⟩) (hlk : Cond.methodLink own ix x ∈ lw_all) (hsm : Cond.sameMethod x.cls owner x.name x.desc ∈ lw_all) (hsel : Cond.selects C x y ∈ lw_all) (hin : Cond.instanceMethod y ∈ lw_all) (hrv : Rv g h b C) {na : Nat} (hna : As.length = na) (hn : (parseMethodDescriptor x.desc).map (fun d => d.parameters.length) = some na) (hcat : (rest.map fun v => v.category).sum ≤ 8) (hd : d' < d) (hkc : k + mc' ≤ mc) (hks : n + ms' ≤ ms) (hst : st0 = As.reverse ++ .ref b :: rest) (hdg : decode cc pc = .ok (.invokevirtual ix, 3)) (kx : ∀ (E : String) (q : Nat) (h' : AHT), px E q h' → VX g A κ L Q (k + mc') (n + ms') h' pc lv E q) (kk : ∀ (v : Option Value) (h' : AHT), post v h' → V g A κ L Q (k + mc') (n + ms') h' (pc + 3) lv (v.toList ++ rest)) : V g A κ L Q k n h pc lv st0 := by
  subst hst
  subst hna
  obtain ⟨bytes, maxL, rt, hmh, hini, hL80, hir, hcode, hM⟩ := hM
  refine V.run (l := l) (a9 := (Value.ref b :: As).toArray) (fun H locs ls hR hS hl => ?_) kx kk
  have hdR : (rmd d' mc' ms').frames + 1 ≤ κ.R.frames := by rw [cx.R]; exact hd
  have hlR : 8 + (maxL + 11) + (rmd d' mc' ms').locals ≤ κ.R.locals := by rw [cx.R]; show 8 + (maxL + 11) + 100 * d' ≤ 100 * d; omega
  have hcR : k + mc' ≤ κ.R.cells ∧ n + ms' ≤ κ.R.slots := by rw [cx.R]; exact ⟨hkc, hks⟩
  have hle := cx.le
  subst hle
  have hG : GoodIn lw_all (va_wsU own ix C owner x y (ws_ y bytes maxL rt)) := by
    refine lw_app ?_ (lw_meth hcode)
    intro w hw
    simp only [List.mem_cons, List.not_mem_nil, or_false] at hw
    rcases hw with e | e | e | e | e <;> rw [e] <;> assumption
  have hmo : owner ≠ "java/lang/invoke/MethodHandle" ∧ owner ≠ "java/lang/invoke/VarHandle" := by rw [hyx] at hmh; exact hmh
  exact vx_runU (nL := L) ⟨cx.1, cx.2.1, cx.ml, cx.own, cx.hts⟩ hM (va_cwU As.length cx.hts hG rfl rfl rfl hyx ⟨hmo.1, hmo.2, hn⟩ ⟨hdR, hlR⟩) ⟨UPc.blind, hrv.cell cx.world hR hS, fun U hU hW => UPc.now cx.world hS hR hU hW⟩ rfl rfl hl.1 rfl (lv_room hcat) hdg hcR
theorem V.callVN {l : Launch} {g : GE} {A : Nat → Prop} {κ : MC} {own : String} {cc : ByteArray} {L : Nat} {ret : Option FieldType} {d mc ms : Nat} {hh : List (Nat × Nat × Nat × Nat)} {yy : MethodName} {Q : State → Prop} {k n : Nat} {h : AHT} {pc : Nat} {lv : List (Nat × Value)} {b : Nat} {C : String} {host : String} {y : MethodName} {ix d' mc' ms' : Nat} {As rest st0 : List Value} {post : Option Value → AHT → Prop} {px : String → Nat → AHT → Prop} (cx : Cx l g A κ own cc L ret d mc ms hh yy) (hM : U_ l g A y d' mc' ms' (.ref b :: As) h post px) (hlk : Cond.methodLinkNest own ix y host ∈ lw_tbl) (hin : Cond.instanceMethod y ∈ lw_all) (hsel : Cond.selects C y y ∈ lw_all) (hrv : Rv g h b C) {na : Nat} (hna : As.length = na) (hn : (parseMethodDescriptor y.desc).map (fun d => d.parameters.length) = some na) (hcat : (rest.map fun v => v.category).sum ≤ 8) (hd : d' < d) (hkc : k + mc' ≤ mc) (hks : n + ms' ≤ ms) (hst : st0 = As.reverse ++ .ref b :: rest) (hdg : decode cc pc = .ok (.invokevirtual ix, 3)) (kx : ∀ (E : String) (q : Nat) (h' : AHT), px E q h' → VX g A κ L Q (k + mc') (n + ms') h' pc lv E q) (kk : ∀ (v : Option Value) (h' : AHT), post v h' → V g A κ L Q (k + mc') (n + ms') h' (pc + 3) lv (v.toList ++ rest)) : V g A κ L Q k n h pc lv st0 := by
  subst hst
  subst hna
  obtain ⟨bytes, maxL, rt, hmh, hini, hL80, hir, hcode, hM⟩ := hM
  refine V.run (l := l) (a9 := (Value.ref b :: As).toArray) (fun H locs ls hR hS hl => ?_) kx kk
  have hdR : (rmd d' mc' ms').frames + 1 ≤ κ.R.frames := by rw [cx.R]; exact hd
  have hlR : 8 + (maxL + 11) + (rmd d' mc' ms').locals ≤ κ.R.locals := by rw [cx.R]; show 8 + (maxL + 11) + 100 * d' ≤ 100 * d; omega
  have hcR : k + mc' ≤ κ.R.cells ∧ n + ms' ≤ κ.R.slots := by rw [cx.R]; exact ⟨hkc, hks⟩
  have hle := cx.le
  subst hle
  exact vx_runVN (nL := L) ⟨cx.1, cx.2.1, cx.ml, cx.own, cx.hts⟩ hM ⟨(va_cnB As.length cx.hts (lw_meth hcode) rfl rfl rfl (cx.world.2.1 _ hlk rfl) (cx.hts _ hini) ⟨hmh.1, hmh.2, hn⟩ ⟨hdR, hlR⟩), cx.hts _ hin, cx.hts _ hsel⟩ ⟨UPc.blind, hrv.cell cx.world hR hS, fun U hU hW => UPc.now cx.world hS hR hU hW⟩ rfl rfl hl.1 rfl (lv_room hcat) hdg hcR
theorem V.callSN {l : Launch} {g : GE} {A : Nat → Prop} {κ : MC} {own : String} {cc : ByteArray} {L : Nat} {ret : Option FieldType} {d mc ms : Nat} {hh : List (Nat × Nat × Nat × Nat)} {yy : MethodName} {Q : State → Prop} {k n : Nat} {h : AHT} {pc : Nat} {lv : List (Nat × Value)} {host : String} {y : MethodName} {ix d' mc' ms' : Nat} {As rest st0 : List Value} {post : Option Value → AHT → Prop} {px : String → Nat → AHT → Prop} (cx : Cx l g A κ own cc L ret d mc ms hh yy) (hM : U_ l g A y d' mc' ms' As h post px) (hlk : Cond.methodLinkNest own ix y host ∈ lw_tbl) (hstt : Cond.static y ∈ lw_all)  {na : Nat} (hna : As.length = na) (hn : (parseMethodDescriptor y.desc).map (fun d => d.parameters.length) = some na) (hcat : (rest.map fun v => v.category).sum ≤ 8) (hd : d' < d) (hkc : k + mc' ≤ mc) (hks : n + ms' ≤ ms) (hst : st0 = As.reverse ++ rest) (hdg : decode cc pc = .ok (.invokestatic ix, 3)) (kx : ∀ (E : String) (q : Nat) (h' : AHT), px E q h' → VX g A κ L Q (k + mc') (n + ms') h' pc lv E q) (kk : ∀ (v : Option Value) (h' : AHT), post v h' → V g A κ L Q (k + mc') (n + ms') h' (pc + 3) lv (v.toList ++ rest)) : V g A κ L Q k n h pc lv st0 := by
  subst hst
  subst hna
  obtain ⟨bytes, maxL, rt, hmh, hini, hL80, hir, hcode, hM⟩ := hM
  refine V.run (l := l) (a9 := As.toArray) (fun H locs ls hR hS hl => ?_) kx kk
  have hdR : (rmd d' mc' ms').frames + 1 ≤ κ.R.frames := by rw [cx.R]; exact hd
  have hlR : 8 + (maxL + 11) + (rmd d' mc' ms').locals ≤ κ.R.locals := by rw [cx.R]; show 8 + (maxL + 11) + 100 * d' ≤ 100 * d; omega
  have hcR : k + mc' ≤ κ.R.cells ∧ n + ms' ≤ κ.R.slots := by rw [cx.R]; exact ⟨hkc, hks⟩
  have hle := cx.le
  subst hle
  exact vx_runSN (nL := L) ⟨cx.1, cx.2.1, cx.ml, cx.own, cx.hts⟩ hM ⟨(va_cnB As.length cx.hts (lw_meth hcode) rfl rfl rfl (cx.world.2.1 _ hlk rfl) (cx.hts _ hini) ⟨hmh.1, hmh.2, hn⟩ ⟨hdR, hlR⟩), cx.hts _ hstt, trivial⟩ ⟨UPc.blind, fun U hU hW => UPc.now cx.world hS hR hU hW⟩ rfl rfl hl.1 rfl (lv_room hcat) hdg hcR
theorem V.callIN {l : Launch} {g : GE} {A : Nat → Prop} {κ : MC} {own : String} {cc : ByteArray} {L : Nat} {ret : Option FieldType} {d mc ms : Nat} {hh : List (Nat × Nat × Nat × Nat)} {yy : MethodName} {Q : State → Prop} {k n : Nat} {h : AHT} {pc : Nat} {lv : List (Nat × Value)} {b : Nat} {host : String} {y : MethodName} {ix d' mc' ms' : Nat} {As rest st0 : List Value} {post : Option Value → AHT → Prop} {px : String → Nat → AHT → Prop} (cx : Cx l g A κ own cc L ret d mc ms hh yy) (hM : U_ l g A y d' mc' ms' (.ref b :: As) h post px) (hlk : Cond.methodLinkNest own ix y host ∈ lw_tbl) (hin : Cond.instanceMethod y ∈ lw_all) (hy1 : y.name = "<init>")  {na : Nat} (hna : As.length = na) (hn : (parseMethodDescriptor y.desc).map (fun d => d.parameters.length) = some na) (hcat : (rest.map fun v => v.category).sum ≤ 8) (hd : d' < d) (hkc : k + mc' ≤ mc) (hks : n + ms' ≤ ms) (hst : st0 = As.reverse ++ .ref b :: rest) (hdg : decode cc pc = .ok (.invokespecial ix, 3)) (kx : ∀ (E : String) (q : Nat) (h' : AHT), px E q h' → VX g A κ L Q (k + mc') (n + ms') h' pc lv E q) (kk : ∀ (v : Option Value) (h' : AHT), post v h' → V g A κ L Q (k + mc') (n + ms') h' (pc + 3) lv (v.toList ++ rest)) : V g A κ L Q k n h pc lv st0 := by
  subst hst
  subst hna
  obtain ⟨bytes, maxL, rt, hmh, hini, hL80, hir, hcode, hM⟩ := hM
  refine V.run (l := l) (a9 := (Value.ref b :: As).toArray) (fun H locs ls hR hS hl => ?_) kx kk
  have hdR : (rmd d' mc' ms').frames + 1 ≤ κ.R.frames := by rw [cx.R]; exact hd
  have hlR : 8 + (maxL + 11) + (rmd d' mc' ms').locals ≤ κ.R.locals := by rw [cx.R]; show 8 + (maxL + 11) + 100 * d' ≤ 100 * d; omega
  have hcR : k + mc' ≤ κ.R.cells ∧ n + ms' ≤ κ.R.slots := by rw [cx.R]; exact ⟨hkc, hks⟩
  have hle := cx.le
  subst hle
  cases hir hy1
  exact vx_runIN (nL := L) ⟨cx.1, cx.2.1, cx.ml, cx.own, cx.hts⟩ hM ⟨(va_cnB As.length cx.hts (lw_meth hcode) rfl rfl rfl (cx.world.2.1 _ hlk rfl) (cx.hts _ hini) ⟨hmh.1, hmh.2, hn⟩ ⟨hdR, hlR⟩), hy1, cx.hts _ hin⟩ ⟨UPc.blind, fun U hU hW => UPc.now cx.world hS hR hU hW⟩ rfl rfl hl.1 rfl (lv_room hcat) hdg hcR
theorem V.callF {l : Launch} {g : GE} {A : Nat → Prop} {κ : MC} {own : String} {cc : ByteArray} {L : Nat} {ret : Option FieldType} {d mc ms : Nat} {hh : List (Nat × Nat × Nat × Nat)} {yy : MethodName} {Q : State → Prop} {k n : Nat} {h : AHT} {pc : Nat} {lv : List (Nat × Value)} {b ci N fcount : Nat} {C : String} {T : u_T} {ty0 : Nat → FieldType} {x : MethodName} {y : MethodName} {ix d' mc' ms' : Nat} {As rest st0 : List Value} {post : Option Value → AHT → Prop} {px : String → Nat → AHT → Prop} (cx : Cx l g A κ own cc L ret d mc ms hh yy) (hM : U_ l g A y d' mc' ms' (.ref b :: As) h post px) (K : Kls ci C T N ty0) (hrv : Rv g h b C) (hlk : Cond.methodLink own ix x ∈ lw_all) (hsel : Cond.selects C x y ∈ lw_all) (hin : Cond.instanceMethod y ∈ lw_all) (hF : (C, x, y) ∈ fws)  {na : Nat} (hna : As.length = na) (hn : (parseMethodDescriptor x.desc).map (fun d => d.parameters.length) = some na) (hcat : (rest.map fun v => v.category).sum ≤ 8) (hd : d' < d) (hkc : k + mc' ≤ mc) (hks : n + ms' ≤ ms) (hst : st0 = As.reverse ++ .ref b :: rest) (hdg : decode cc pc = .ok (.invokeinterface ix fcount, 5)) (kx : ∀ (E : String) (q : Nat) (h' : AHT), px E q h' → VX g A κ L Q (k + mc') (n + ms') h' pc lv E q) (kk : ∀ (v : Option Value) (h' : AHT), post v h' → V g A κ L Q (k + mc') (n + ms') h' (pc + 5) lv (v.toList ++ rest)) : V g A κ L Q k n h pc lv st0 := by
  subst hst
  subst hna
  obtain ⟨bytes, maxL, rt, hmh, hini, hL80, hir, hcode, hM⟩ := hM
  refine V.run5 (l := l) (a9 := (Value.ref b :: As).toArray) (fun H locs ls hR hS hl => ?_) kx kk
  have hdR : (rmd d' mc' ms').frames + 1 ≤ κ.R.frames := by rw [cx.R]; exact hd
  have hlR : 8 + (maxL + 11) + (rmd d' mc' ms').locals ≤ κ.R.locals := by rw [cx.R]; show 8 + (maxL + 11) + 100 * d' ≤ 100 * d; omega
  have hcR : k + mc' ≤ κ.R.cells ∧ n + ms' ≤ κ.R.slots := by rw [cx.R]; exact ⟨hkc, hks⟩
  have hle := cx.le
  subst hle
  have hG : GoodIn lw_all (va_wsF own ix C x y (ws_ y bytes maxL rt)) := by
    refine lw_app ?_ (lw_meth hcode)
    intro w hw
    simp only [List.mem_cons, List.not_mem_nil, or_false] at hw
    rcases hw with e | e | e | e <;> rw [e] <;> assumption
  have hF9 := cx.world.2.2.1 _ hF
  exact vx_runF (nL := L) (cx.world.1.1 ci _ K.1).2 ⟨cx.1, cx.2.1, cx.ml, cx.own, cx.hts⟩ hM (va_cwF As.length cx.hts hG rfl rfl rfl hF9.1 ⟨hF9.2.1, hF9.2.2, hn⟩ ⟨hdR, hlR⟩) ⟨UPc.blind, hrv.cell cx.world hR hS, fun U hU hW => UPc.now cx.world hS hR hU hW⟩ rfl rfl hl.1 rfl (lv_room hcat) hdg hcR
theorem V.callFw {l : Launch} {g : GE} {A : Nat → Prop} {κ : MC} {own : String} {cc : ByteArray} {L : Nat} {ret : Option FieldType} {d mc ms : Nat} {hh : List (Nat × Nat × Nat × Nat)} {yy : MethodName} {Q : State → Prop} {k n : Nat} {h : AHT} {pc : Nat} {lv : List (Nat × Value)} {b ci N fcount : Nat} {C : String} {T : u_T} {ty0 : Nat → FieldType} {x : MethodName} {y : MethodName} {ix d' mc' ms' : Nat} {As rest st0 : List Value} {post : Option Value → AHT → Prop} {px : String → Nat → AHT → Prop} (cx : Cx l g A κ own cc L ret d mc ms hh yy) (hM : Uw_ l g A y d' mc' ms' (.ref b :: As) h post px) (K : Kls ci C T N ty0) (hrv : Rv g h b C) (hlk : Cond.methodLink own ix x ∈ lw_all) (hsel : Cond.selects C x y ∈ lw_all) (hin : Cond.instanceMethod y ∈ lw_all) (hF : (C, x, y) ∈ fws)  {na : Nat} (hna : As.length = na) (hn : (parseMethodDescriptor x.desc).map (fun d => d.parameters.length) = some na) (hcat : (rest.map fun v => v.category).sum ≤ 8) (hd : d' < d) (hkc : k + mc' ≤ mc) (hks : n + ms' ≤ ms) (hst : st0 = As.reverse ++ .ref b :: rest) (hdg : decode cc pc = .ok (.invokeinterface ix fcount, 5)) (kx : ∀ (E : String) (q : Nat) (h' : AHT), px E q h' → VX g A κ L Q (k + mc') (n + ms') h' pc lv E q) (kk : ∀ (v : Option Value) (h' : AHT), post v h' → V g A κ L Q (k + mc') (n + ms') h' (pc + 5) lv (v.toList ++ rest)) : V g A κ L Q k n h pc lv st0 := by
  subst hst
  subst hna
  obtain ⟨bytes, maxL, rt, hh9, hmh, hini, hL80, hir, hcode, hM⟩ := hM
  refine V.run5 (l := l) (a9 := (Value.ref b :: As).toArray) (fun H locs ls hR hS hl => ?_) kx kk
  have hdR : (rmd d' mc' ms').frames + 1 ≤ κ.R.frames := by rw [cx.R]; exact hd
  have hlR : 8 + (maxL + 11) + (rmd d' mc' ms').locals ≤ κ.R.locals := by rw [cx.R]; show 8 + (maxL + 11) + 100 * d' ≤ 100 * d; omega
  have hcR : k + mc' ≤ κ.R.cells ∧ n + ms' ≤ κ.R.slots := by rw [cx.R]; exact ⟨hkc, hks⟩
  have hle := cx.le
  subst hle
  have hG : GoodIn lw_all (va_wsF own ix C x y (wsW_ y bytes maxL rt hh9)) := by
    refine lw_app ?_ (lw_methW hcode)
    intro w hw
    simp only [List.mem_cons, List.not_mem_nil, or_false] at hw
    rcases hw with e | e | e | e <;> rw [e] <;> assumption
  have hF9 := cx.world.2.2.1 _ hF
  exact vx_runFW (nL := L) (cx.world.1.1 ci _ K.1).2 ⟨cx.1, cx.2.1, cx.ml, cx.own, cx.hts⟩ hM (va_cwFW As.length cx.hts hG rfl rfl rfl hF9.1 ⟨hF9.2.1, hF9.2.2, hn⟩ ⟨hdR, hlR⟩) ⟨UPc.blind, hrv.cell cx.world hR hS, fun U hU hW => UPc.now cx.world hS hR hU hW⟩ rfl rfl hl.1 rfl (lv_room hcat) hdg hcR
theorem V.ireturn {l : Launch} {g : GE} {A : Nat → Prop} {κ : MC} {own : String} {cc : ByteArray} {L : Nat} {ret : Option FieldType} {d mc ms : Nat} {hh : List (Nat × Nat × Nat × Nat)} {yy : MethodName} {k n : Nat} {h : AHT} {pc : Nat} {lv : List (Nat × Value)} {x : Int32} {ty : FieldType} {post : Option Value → AHT → Prop} {px : String → Nat → AHT → Prop} (cx : Cx l g A κ own cc L ret d mc ms hh yy) (hr : ret = some ty) (hnr : narrow ty (.int x) = .int x) (hp : post (some (.int x)) h) (hkc : k ≤ mc) (hks : n ≤ ms) (hdg : decode cc pc = .ok (.ireturn, 1)) : V g A κ L (QU g A κ post px mc ms) k n h pc lv [.int x] := by
  intro H locs ls hR hS hl
  refine W.widen hkc hks ?_
  exact vx_ret (W.zret cx.1 cx.2.1 (cx.ret.trans hr) hnr (fun t ht hW => ⟨⟨_, h, rfl, hp, by rw [ht]; exact hR⟩, hS.F ht⟩) hS.2.2 hdg cx.locks)
theorem V.lreturn {l : Launch} {g : GE} {A : Nat → Prop} {κ : MC} {own : String} {cc : ByteArray} {L : Nat} {ret : Option FieldType} {d mc ms : Nat} {hh : List (Nat × Nat × Nat × Nat)} {yy : MethodName} {k n : Nat} {h : AHT} {pc : Nat} {lv : List (Nat × Value)} {x : Int64} {post : Option Value → AHT → Prop} {px : String → Nat → AHT → Prop} (cx : Cx l g A κ own cc L ret d mc ms hh yy) (hr : ret = some .long) (hp : post (some (.long x)) h) (hkc : k ≤ mc) (hks : n ≤ ms) (hdg : decode cc pc = .ok (.lreturn, 1)) : V g A κ L (QU g A κ post px mc ms) k n h pc lv [.long x] := by
  intro H locs ls hR hS hl
  refine W.widen hkc hks ?_
  exact vx_ret (W.lret cx.1 cx.2.1 (cx.ret.trans hr) (fun t ht hW => ⟨⟨_, h, rfl, hp, by rw [ht]; exact hR⟩, hS.F ht⟩) hS.2.2 hdg cx.locks)
theorem V.freturn {l : Launch} {g : GE} {A : Nat → Prop} {κ : MC} {own : String} {cc : ByteArray} {L : Nat} {ret : Option FieldType} {d mc ms : Nat} {hh : List (Nat × Nat × Nat × Nat)} {yy : MethodName} {k n : Nat} {h : AHT} {pc : Nat} {lv : List (Nat × Value)} {x : UInt32} {post : Option Value → AHT → Prop} {px : String → Nat → AHT → Prop} (cx : Cx l g A κ own cc L ret d mc ms hh yy) (hr : ret = some .float) (hp : post (some (.float x)) h) (hkc : k ≤ mc) (hks : n ≤ ms) (hdg : decode cc pc = .ok (.freturn, 1)) : V g A κ L (QU g A κ post px mc ms) k n h pc lv [.float x] := by
  intro H locs ls hR hS hl
  refine W.widen hkc hks ?_
  exact vx_ret (W.fret cx.1 cx.2.1 (cx.ret.trans hr) (fun t ht hW => ⟨⟨_, h, rfl, hp, by rw [ht]; exact hR⟩, hS.F ht⟩) hS.2.2 hdg cx.locks)
theorem V.dreturn {l : Launch} {g : GE} {A : Nat → Prop} {κ : MC} {own : String} {cc : ByteArray} {L : Nat} {ret : Option FieldType} {d mc ms : Nat} {hh : List (Nat × Nat × Nat × Nat)} {yy : MethodName} {k n : Nat} {h : AHT} {pc : Nat} {lv : List (Nat × Value)} {x : UInt64} {post : Option Value → AHT → Prop} {px : String → Nat → AHT → Prop} (cx : Cx l g A κ own cc L ret d mc ms hh yy) (hr : ret = some .double) (hp : post (some (.double x)) h) (hkc : k ≤ mc) (hks : n ≤ ms) (hdg : decode cc pc = .ok (.dreturn, 1)) : V g A κ L (QU g A κ post px mc ms) k n h pc lv [.double x] := by
  intro H locs ls hR hS hl
  refine W.widen hkc hks ?_
  exact vx_ret (W.dret cx.1 cx.2.1 (cx.ret.trans hr) (fun t ht hW => ⟨⟨_, h, rfl, hp, by rw [ht]; exact hR⟩, hS.F ht⟩) hS.2.2 hdg cx.locks)
theorem V.areturn {l : Launch} {g : GE} {A : Nat → Prop} {κ : MC} {own : String} {cc : ByteArray} {L : Nat} {ret : Option FieldType} {d mc ms : Nat} {hh : List (Nat × Nat × Nat × Nat)} {yy : MethodName} {k n : Nat} {h : AHT} {pc : Nat} {lv : List (Nat × Value)} {x : Nat} {rt : FieldType} {post : Option Value → AHT → Prop} {px : String → Nat → AHT → Prop} (cx : Cx l g A κ own cc L ret d mc ms hh yy) (hr : ret = some rt) (hrt : (∃ n, rt = .object n) ∨ ∃ t, rt = .array t) (hp : post (some (.ref x)) h) (hkc : k ≤ mc) (hks : n ≤ ms) (hdg : decode cc pc = .ok (.areturn, 1)) : V g A κ L (QU g A κ post px mc ms) k n h pc lv [.ref x] := by
  intro H locs ls hR hS hl
  refine W.widen hkc hks ?_
  exact vx_ret (W.aret (v := .ref x) cx.1 cx.2.1 (cx.ret.trans hr) hrt (Or.inr ⟨x, rfl⟩) (fun t ht hW => ⟨⟨_, h, rfl, hp, by rw [ht]; exact hR⟩, hS.F ht⟩) hS.2.2 hdg cx.locks)
theorem V.areturnN {l : Launch} {g : GE} {A : Nat → Prop} {κ : MC} {own : String} {cc : ByteArray} {L : Nat} {ret : Option FieldType} {d mc ms : Nat} {hh : List (Nat × Nat × Nat × Nat)} {yy : MethodName} {k n : Nat} {h : AHT} {pc : Nat} {lv : List (Nat × Value)} {rt : FieldType} {post : Option Value → AHT → Prop} {px : String → Nat → AHT → Prop} (cx : Cx l g A κ own cc L ret d mc ms hh yy) (hr : ret = some rt) (hrt : (∃ n, rt = .object n) ∨ ∃ t, rt = .array t) (hp : post (some .null) h) (hkc : k ≤ mc) (hks : n ≤ ms) (hdg : decode cc pc = .ok (.areturn, 1)) : V g A κ L (QU g A κ post px mc ms) k n h pc lv [.null] := by
  intro H locs ls hR hS hl
  refine W.widen hkc hks ?_
  exact vx_ret (W.aret (v := .null) cx.1 cx.2.1 (cx.ret.trans hr) hrt (Or.inl rfl) (fun t ht hW => ⟨⟨_, h, rfl, hp, by rw [ht]; exact hR⟩, hS.F ht⟩) hS.2.2 hdg cx.locks)
theorem V.vreturn {l : Launch} {g : GE} {A : Nat → Prop} {κ : MC} {own : String} {cc : ByteArray} {L : Nat} {ret : Option FieldType} {d mc ms : Nat} {hh : List (Nat × Nat × Nat × Nat)} {yy : MethodName} {k n : Nat} {h : AHT} {pc : Nat} {lv : List (Nat × Value)} {post : Option Value → AHT → Prop} {px : String → Nat → AHT → Prop} (cx : Cx l g A κ own cc L ret d mc ms hh yy) (hr : ret = none) (hp : post none h) (hkc : k ≤ mc) (hks : n ≤ ms) (hdg : decode cc pc = .ok (.return_, 1)) : V g A κ L (QU g A κ post px mc ms) k n h pc lv [] := by
  intro H locs ls hR hS hl
  refine W.widen hkc hks ?_
  exact vx_ret (W.vret cx.1 cx.2.1 (cx.ret.trans hr) (fun t ht hW => ⟨⟨_, h, rfl, hp, by rw [ht]; exact hR⟩, hS.F ht⟩) hS.2.2 hdg cx.locks)
theorem V.athrow {l : Launch} {g : GE} {A : Nat → Prop} {κ : MC} {own : String} {cc : ByteArray} {L : Nat} {ret : Option FieldType} {d mc ms : Nat} {hh : List (Nat × Nat × Nat × Nat)} {yy : MethodName} {Q : State → Prop} {k n : Nat} {h : AHT} {pc : Nat} {lv : List (Nat × Value)} {st : List Value} {q : Nat} {E : String} (cx : Cx l g A κ own cc L ret d mc ms hh yy) {N ci : Nat} {T : u_T} {ty0 : Nat → FieldType} {fs : List Value} (K : Kls ci E T N ty0) (hc : h q = some (.inr (ci, fs))) (hdg : decode cc pc = .ok (.athrow, 1)) (kk : VX g A κ L Q k n h pc lv E q) : V g A κ L Q k n h pc lv (.ref q :: st) := by
  intro H locs ls hR hS hl
  obtain ⟨ws, q0, hP, hD, hq0, -⟩ := hR.mem hc
  obtain ⟨r, h1, cell, h2, h3, h4, h5⟩ := hP q0 _ hq0
  refine vx_athrow cx.1 cx.2.1 hdg (kk H locs ls st cell hR hS hl h2 h4 ?_)
  rw [h3]
  exact (cx.world.1.1 ci _ K.1).2.1
theorem VX.out {l : Launch} {g : GE} {A : Nat → Prop} {κ : MC} {own : String} {cc : ByteArray} {L : Nat} {ret : Option FieldType} {d mc ms : Nat} {hh : List (Nat × Nat × Nat × Nat)} {yy : MethodName} {k n : Nat} {h : AHT} {pc : Nat} {lv : List (Nat × Value)} {q : Nat} {E : String} {post : Option Value → AHT → Prop} {px : String → Nat → AHT → Prop} (cx : Cx l g A κ own cc L ret d mc ms hh yy) (hh0 : hh = []) (hp : px E q h) (hkc : k ≤ mc) (hks : n ≤ ms) : VX g A κ L (QU g A κ post px mc ms) k n h pc lv E q := by
  intro H locs ls st ce hR hS hl hcell hv hcl
  subst hh0
  exact vx_widen (Nat.le_refl _) (Nat.le_refl _) (vx_out (E := E) (ce := ce) (fun x hx => by rw [cx.tab] at hx; exact absurd hx List.not_mem_nil) cx.locks hcell hv hcl (fun t ht hA => ⟨⟨h, hp, by rw [ht]; exact hR⟩, hS.F ht⟩) hS.2.2 hkc hks)
theorem VX.outP {l : Launch} {g : GE} {A : Nat → Prop} {κ : MC} {own : String} {cc : ByteArray} {L : Nat} {ret : Option FieldType} {d mc ms : Nat} {hh : List (Nat × Nat × Nat × Nat)} {yy : MethodName} {k n : Nat} {h : AHT} {pc : Nat} {lv : List (Nat × Value)} {q : Nat} {E : String} {post : Option Value → AHT → Prop} {px : String → Nat → AHT → Prop} (cx : Cx l g A κ own cc L ret d mc ms hh yy) (hpass : ∀ z ∈ tableOf hh, covers z pc = false ∨ (z.catchType ≠ 0 ∧ ∃ nm : String, Cond.classLink own z.catchType nm ∈ lw_all ∧ (E, nm) ∈ ncs)) (hp : px E q h) (hkc : k ≤ mc) (hks : n ≤ ms) : VX g A κ L (QU g A κ post px mc ms) k n h pc lv E q := by
  intro H locs ls st ce hR hS hl hcell hv hcl
  refine vx_outP (E := E) (ce := ce) cx.own cx.locks (fun z hz => ?_) hcell hv hcl (fun t ht hA => ⟨⟨h, hp, by rw [ht]; exact hR⟩, hS.F ht⟩) hS.2.2 hkc hks
  rw [cx.tab] at hz
  rcases hpass z hz with h1 | ⟨h1, nm, h2, h3⟩
  · exact Or.inl h1
  · exact Or.inr ⟨h1, nm, cx.hts _ h2, cx.world.2.2.2.2.1 _ h3⟩
theorem VX.catch {l : Launch} {g : GE} {A : Nat → Prop} {κ : MC} {own : String} {cc : ByteArray} {L : Nat} {ret : Option FieldType} {d mc ms : Nat} {hh : List (Nat × Nat × Nat × Nat)} {yy : MethodName} {Q : State → Prop} {k n : Nat} {h : AHT} {pc : Nat} {lv : List (Nat × Value)} {st : List Value} {q tgt : Nat} {E name : String} (cx : Cx l g A κ own cc L ret d mc ms hh yy) (pre : List ExceptionTableEntry) (x : ExceptionTableEntry) (suf : List ExceptionTableEntry) (hsplit : tableOf hh = pre ++ x :: suf) (hpass : ∀ z ∈ pre, covers z pc = false ∨ (z.catchType ≠ 0 ∧ ∃ nm : String, Cond.classLink own z.catchType nm ∈ lw_all ∧ (E, nm) ∈ ncs)) (hx : covers x pc = true) (h0 : x.catchType ≠ 0) (hlk : Cond.classLink own x.catchType name ∈ lw_all) (hca : Cond.castable E name ∈ lw_tbl) (htg : x.handlerPc = tgt) (kk : V g A κ L Q k n h tgt lv [.ref q]) : VX g A κ L Q k n h pc lv E q := by
  intro H locs ls st ce hR hS hl hcell hv hcl
  subst htg
  refine vx_catch cx.own pre x suf (cx.tab.trans hsplit) (fun z hz => ?_) hx h0 (cx.hts _ hlk) (va_Nw.use rfl (cx.world.2.1 _ hca rfl)) hcell hv hcl (kk H locs ls hR hS hl)
  rcases hpass z hz with h1 | ⟨h1, nm, h2, h3⟩
  · exact Or.inl h1
  · exact Or.inr ⟨h1, nm, cx.hts _ h2, cx.world.2.2.2.2.1 _ h3⟩
theorem V.throw0 {l : Launch} {g : GE} {A : Nat → Prop} {κ : MC} {own : String} {cc : ByteArray} {L : Nat} {ret : Option FieldType} {d mc ms : Nat} {hh : List (Nat × Nat × Nat × Nat)} {yy : MethodName} {k n : Nat} {h : AHT} {pc : Nat} {lv : List (Nat × Value)} {st : List Value} {X : String} {names : List String} {ik ic : Nat} {post : Option Value → AHT → Prop} {px : String → Nat → AHT → Prop} (cx : Cx l g A κ own cc L ret d mc ms hh yy) (hcls : Bundle.fit X = true) (hnames : ∀ n ∈ names, Bundle.fit n = true) (hk1 : Cond.classLink own ik X ∈ lw_all) (hini : Cond.initialized X ∈ lw_all) (hat : ∀ w ∈ vx_at0 own ic X names, w ∈ lw_all ∨ (w ∈ lw_tbl ∧ wst w = true)) (hgood : (vx_at0 own ic X names).all vx_ot = true) (d0 : decode cc pc = .ok (.new ik, 3)) (d3 : decode cc (pc + 3) = .ok (.dup, 1)) (d4 : decode cc (pc + 4) = .ok (.invokespecial ic, 3)) (d7 : decode cc (pc + 7) = .ok (.athrow, 1)) (hout : ∀ x ∈ tableOf hh, covers x (pc + 7) = false) (hdd : names.length + 3 < d) (hlo : 13 * (names.length + 1) + 50 ≤ 100 * d) (hcat : (st.map fun v => v.category).sum ≤ 8) (hp : ∀ q, px X q h) (hkc : k + 1 ≤ mc) (hks : n + 6 ≤ ms) : V g A κ L (QU g A κ post px mc ms) k n h pc lv st := by
  intro H locs ls hR hS hl
  obtain ⟨-, hnw, -, -, -, -, ⟨-, -, -, -, hU, hN⟩, -⟩ := cx.world
  have hw : ∀ w ∈ vx_at0 own ic X names, w.before κ.args κ.s = true := fun w hw => by
    rcases hat w hw with h1 | ⟨h1, h2⟩
    · exact cx.hts _ h1
    · exact va_Nw.use (by cases w <;> first | rfl | exact absurd h2 (by simp [wst])) (hnw w h1 h2)
  refine vx_throw0 cx.1 cx.2.1 (by rw [cx.le]; exact cx.st) cx.own hcls hnames (cx.hts _ hk1) (cx.hts _ hini) hw ?_ hU hN hS (hl.1.trans cx.ml.symm) d0 d3 d4 d7 (fun x hx => hout x (by rw [← cx.tab]; exact hx)) (by rw [cx.R]; exact hdd) ?_ (by rw [cx.R]; exact hkc) (by rw [cx.R]; exact hks) cx.locks (fun q t hA hz hsame => ?_) hS.2.2 hkc hks
  · intro w hw9
    rcases List.mem_cons.mp hw9 with e | hw9
    · rw [e]; rfl
    rcases List.mem_cons.mp hw9 with e | hw9
    · rw [e]; rfl
    · exact List.all_eq_true.mp hgood w hw9
  · rw [cx.R]; show _ ≤ 100 * d; omega
  · refine ⟨⟨h, hp q, ?_⟩, Nat.le_trans hS.1 hz, fun q h1 h2 => (hsame q (Nat.lt_of_lt_of_le h1 hS.1)).trans (hS.2.1 q h1 h2)⟩
    obtain ⟨ws, hP, hD, h3⟩ := hR
    exact ⟨ws, hP.kept (fun k q hk => hsame q.1 (hP k q hk).lt), hD, h3⟩
theorem Cx.gok {l : Launch} {g : GE} {A : Nat → Prop} {κ : MC} {own : String} {cc : ByteArray} {L : Nat} {ret : Option FieldType} {d mc ms : Nat} {hh : List (Nat × Nat × Nat × Nat)} {yy : MethodName} (cx : Cx l g A κ own cc L ret d mc ms hh yy) : Gok g := cx.world.2.2.2.2.2.2.2.1
theorem V.aload_nq {l : Launch} {g : GE} {A : Nat → Prop} {κ : MC} {own : String} {cc : ByteArray} {L : Nat} {ret : Option FieldType} {d mc ms : Nat} {hh : List (Nat × Nat × Nat × Nat)} {yy : MethodName} {Q : State → Prop} {k n : Nat} {h : AHT} {pc : Nat} {lv : List (Nat × Value)} {st : List Value} {kk4 : Fin 4} {i : Nat} {o : Option Nat} (cx : Cx l g A κ own cc L ret d mc ms hh yy) (hdg : decode cc pc = .ok (.aload_n kk4, 1)) (hi : (kk4 : Nat) = i) (j : Nat) (hq : lv[j]? = some (i, va_rf o)) (kk : V g A κ L Q k n h (pc + 1) lv (va_rf o :: st)) : V g A κ L Q k n h pc lv st := by
  cases o with
  | none => exact V.aload_nN cx hdg hi j hq kk
  | some a => exact V.aload_n cx hdg hi j hq kk
theorem V.aloadq {l : Launch} {g : GE} {A : Nat → Prop} {κ : MC} {own : String} {cc : ByteArray} {L : Nat} {ret : Option FieldType} {d mc ms : Nat} {hh : List (Nat × Nat × Nat × Nat)} {yy : MethodName} {Q : State → Prop} {k n : Nat} {h : AHT} {pc : Nat} {lv : List (Nat × Value)} {st : List Value} {i : Nat} {o : Option Nat} (cx : Cx l g A κ own cc L ret d mc ms hh yy) (hdg : decode cc pc = .ok (.aload i, 2)) (j : Nat) (hq : lv[j]? = some (i, va_rf o)) (kk : V g A κ L Q k n h (pc + 2) lv (va_rf o :: st)) : V g A κ L Q k n h pc lv st := by
  cases o with
  | none => exact V.aloadN cx hdg j hq kk
  | some a => exact V.aload cx hdg j hq kk
theorem V.astore_nq {l : Launch} {g : GE} {A : Nat → Prop} {κ : MC} {own : String} {cc : ByteArray} {L : Nat} {ret : Option FieldType} {d mc ms : Nat} {hh : List (Nat × Nat × Nat × Nat)} {yy : MethodName} {Q : State → Prop} {k n : Nat} {h : AHT} {pc : Nat} {lv : List (Nat × Value)} {st : List Value} {kk4 : Fin 4} {i : Nat} {o : Option Nat} {lv' : List (Nat × Value)} (cx : Cx l g A κ own cc L ret d mc ms hh yy) (hdg : decode cc pc = .ok (.astore_n kk4, 1)) (hi : (kk4 : Nat) = i) (hn : i < L) (hl' : (i, va_rf o) :: lv.filter (fun q => !(q.1 == i) && !(q.1 + 1 == i && q.2.category == 2)) = lv') (kk : V g A κ L Q k n h (pc + 1) lv' st) : V g A κ L Q k n h pc lv (va_rf o :: st) := by
  cases o with
  | none => exact V.astore_nN cx hdg hi hn hl' kk
  | some a => exact V.astore_n cx hdg hi hn hl' kk
theorem V.astoreq {l : Launch} {g : GE} {A : Nat → Prop} {κ : MC} {own : String} {cc : ByteArray} {L : Nat} {ret : Option FieldType} {d mc ms : Nat} {hh : List (Nat × Nat × Nat × Nat)} {yy : MethodName} {Q : State → Prop} {k n : Nat} {h : AHT} {pc : Nat} {lv : List (Nat × Value)} {st : List Value} {i : Nat} {o : Option Nat} {lv' : List (Nat × Value)} (cx : Cx l g A κ own cc L ret d mc ms hh yy) (hdg : decode cc pc = .ok (.astore i, 2)) (hn : i < L) (hl' : (i, va_rf o) :: lv.filter (fun q => !(q.1 == i) && !(q.1 + 1 == i && q.2.category == 2)) = lv') (kk : V g A κ L Q k n h (pc + 2) lv' st) : V g A κ L Q k n h pc lv (va_rf o :: st) := by
  cases o with
  | none => exact V.astoreN cx hdg hn hl' kk
  | some a => exact V.astore cx hdg hn hl' kk
theorem V.ifnullq {l : Launch} {g : GE} {A : Nat → Prop} {κ : MC} {own : String} {cc : ByteArray} {L : Nat} {ret : Option FieldType} {d mc ms : Nat} {hh : List (Nat × Nat × Nat × Nat)} {yy : MethodName} {Q : State → Prop} {k n : Nat} {h : AHT} {pc : Nat} {lv : List (Nat × Value)} {st : List Value} {o : Option Nat} {off : Int} {tgt : Nat} (cx : Cx l g A κ own cc L ret d mc ms hh yy) (hdg : decode cc pc = .ok (.ifnull off, 3)) (ht : (pc : Int) + off = (tgt : Int)) (kt : o = none → V g A κ L Q k n h tgt lv st) (kf : ∀ a, o = some a → V g A κ L Q k n h (pc + 3) lv st) : V g A κ L Q k n h pc lv (va_rf o :: st) := by
  cases o with
  | none => exact V.ifnullN cx hdg ht (kt rfl)
  | some a => exact V.ifnull cx hdg (kf a rfl)
theorem V.ifnonnullq {l : Launch} {g : GE} {A : Nat → Prop} {κ : MC} {own : String} {cc : ByteArray} {L : Nat} {ret : Option FieldType} {d mc ms : Nat} {hh : List (Nat × Nat × Nat × Nat)} {yy : MethodName} {Q : State → Prop} {k n : Nat} {h : AHT} {pc : Nat} {lv : List (Nat × Value)} {st : List Value} {o : Option Nat} {off : Int} {tgt : Nat} (cx : Cx l g A κ own cc L ret d mc ms hh yy) (hdg : decode cc pc = .ok (.ifnonnull off, 3)) (ht : (pc : Int) + off = (tgt : Int)) (kt : ∀ a, o = some a → V g A κ L Q k n h tgt lv st) (kf : o = none → V g A κ L Q k n h (pc + 3) lv st) : V g A κ L Q k n h pc lv (va_rf o :: st) := by
  cases o with
  | none => exact V.ifnonnullN cx hdg (kf rfl)
  | some a => exact V.ifnonnull cx hdg ht (kt a rfl)
theorem V.areturnq {l : Launch} {g : GE} {A : Nat → Prop} {κ : MC} {own : String} {cc : ByteArray} {L : Nat} {ret : Option FieldType} {d mc ms : Nat} {hh : List (Nat × Nat × Nat × Nat)} {yy : MethodName} {k n : Nat} {h : AHT} {pc : Nat} {lv : List (Nat × Value)} {o : Option Nat} {rt : FieldType} {post : Option Value → AHT → Prop} {px : String → Nat → AHT → Prop} (cx : Cx l g A κ own cc L ret d mc ms hh yy) (hr : ret = some rt) (hrt : (∃ n, rt = .object n) ∨ ∃ t, rt = .array t) (hp : post (some (va_rf o)) h) (hkc : k ≤ mc) (hks : n ≤ ms) (hdg : decode cc pc = .ok (.areturn, 1)) : V g A κ L (QU g A κ post px mc ms) k n h pc lv [va_rf o] := by
  cases o with
  | none => exact V.areturnN cx hr hrt hp hkc hks hdg
  | some a => exact V.areturn cx hr hrt hp hkc hks hdg
theorem V.toi {g : GE} {A : Nat → Prop} {κ : MC} {L : Nat} {Q : State → Prop} {k n : Nat} {h : AHT} {pc : Nat} {lv : List (Nat × Value)} {st : List Value} {x y : Int32} (e : x = y) (kk : V g A κ L Q k n h pc lv (.int y :: st)) : V g A κ L Q k n h pc lv (.int x :: st) := by rw [e]; exact kk
theorem V.tol {g : GE} {A : Nat → Prop} {κ : MC} {L : Nat} {Q : State → Prop} {k n : Nat} {h : AHT} {pc : Nat} {lv : List (Nat × Value)} {st : List Value} {x y : Int64} (e : x = y) (kk : V g A κ L Q k n h pc lv (.long y :: st)) : V g A κ L Q k n h pc lv (.long x :: st) := by rw [e]; exact kk
theorem V.nicmp_eq {l : Launch} {g : GE} {A : Nat → Prop} {κ : MC} {own : String} {cc : ByteArray} {L : Nat} {ret : Option FieldType} {d mc ms : Nat} {hh : List (Nat × Nat × Nat × Nat)} {yy : MethodName} {Q : State → Prop} {k n : Nat} {h : AHT} {pc : Nat} {lv : List (Nat × Value)} {st : List Value} {a b : Nat} {off : Int} {tgt : Nat} (cx : Cx l g A κ own cc L ret d mc ms hh yy) (ha : a < 2 ^ 31) (hb : b < 2 ^ 31) (hdg : decode cc pc = .ok (.if_icmp .eq off, 3)) (ht : (pc : Int) + off = (tgt : Int)) (kt : a = b → V g A κ L Q k n h tgt lv st) (kf : a ≠ b → V g A κ L Q k n h (pc + 3) lv st) : V g A κ L Q k n h pc lv (.int (nI b) :: .int (nI a) :: st) := V.icmp_eq cx hdg ht (fun c => kt ((nI_eq ha hb).mp c)) (fun c => kf (fun e => c ((nI_eq ha hb).mpr e)))
theorem V.nicmp_ne {l : Launch} {g : GE} {A : Nat → Prop} {κ : MC} {own : String} {cc : ByteArray} {L : Nat} {ret : Option FieldType} {d mc ms : Nat} {hh : List (Nat × Nat × Nat × Nat)} {yy : MethodName} {Q : State → Prop} {k n : Nat} {h : AHT} {pc : Nat} {lv : List (Nat × Value)} {st : List Value} {a b : Nat} {off : Int} {tgt : Nat} (cx : Cx l g A κ own cc L ret d mc ms hh yy) (ha : a < 2 ^ 31) (hb : b < 2 ^ 31) (hdg : decode cc pc = .ok (.if_icmp .ne off, 3)) (ht : (pc : Int) + off = (tgt : Int)) (kt : a ≠ b → V g A κ L Q k n h tgt lv st) (kf : a = b → V g A κ L Q k n h (pc + 3) lv st) : V g A κ L Q k n h pc lv (.int (nI b) :: .int (nI a) :: st) := V.icmp_ne cx hdg ht (fun c => kt (fun e => c ((nI_eq ha hb).mpr e))) (fun c => kf ((nI_eq ha hb).mp c))
theorem V.nicmp_lt {l : Launch} {g : GE} {A : Nat → Prop} {κ : MC} {own : String} {cc : ByteArray} {L : Nat} {ret : Option FieldType} {d mc ms : Nat} {hh : List (Nat × Nat × Nat × Nat)} {yy : MethodName} {Q : State → Prop} {k n : Nat} {h : AHT} {pc : Nat} {lv : List (Nat × Value)} {st : List Value} {a b : Nat} {off : Int} {tgt : Nat} (cx : Cx l g A κ own cc L ret d mc ms hh yy) (ha : a < 2 ^ 31) (hb : b < 2 ^ 31) (hdg : decode cc pc = .ok (.if_icmp .lt off, 3)) (ht : (pc : Int) + off = (tgt : Int)) (kt : a < b → V g A κ L Q k n h tgt lv st) (kf : b ≤ a → V g A κ L Q k n h (pc + 3) lv st) : V g A κ L Q k n h pc lv (.int (nI b) :: .int (nI a) :: st) := V.icmp_lt cx hdg ht (fun c => kt ((nI_ltI ha hb).mp c)) (fun c => kf (Nat.le_of_not_lt fun e => c ((nI_ltI ha hb).mpr e)))
theorem V.nicmp_ge {l : Launch} {g : GE} {A : Nat → Prop} {κ : MC} {own : String} {cc : ByteArray} {L : Nat} {ret : Option FieldType} {d mc ms : Nat} {hh : List (Nat × Nat × Nat × Nat)} {yy : MethodName} {Q : State → Prop} {k n : Nat} {h : AHT} {pc : Nat} {lv : List (Nat × Value)} {st : List Value} {a b : Nat} {off : Int} {tgt : Nat} (cx : Cx l g A κ own cc L ret d mc ms hh yy) (ha : a < 2 ^ 31) (hb : b < 2 ^ 31) (hdg : decode cc pc = .ok (.if_icmp .ge off, 3)) (ht : (pc : Int) + off = (tgt : Int)) (kt : b ≤ a → V g A κ L Q k n h tgt lv st) (kf : a < b → V g A κ L Q k n h (pc + 3) lv st) : V g A κ L Q k n h pc lv (.int (nI b) :: .int (nI a) :: st) := V.icmp_ge cx hdg ht (fun c => kt ((nI_leI hb ha).mp c)) (fun c => kf (Nat.lt_of_not_le fun e => c ((nI_leI hb ha).mpr e)))
theorem V.nicmp_gt {l : Launch} {g : GE} {A : Nat → Prop} {κ : MC} {own : String} {cc : ByteArray} {L : Nat} {ret : Option FieldType} {d mc ms : Nat} {hh : List (Nat × Nat × Nat × Nat)} {yy : MethodName} {Q : State → Prop} {k n : Nat} {h : AHT} {pc : Nat} {lv : List (Nat × Value)} {st : List Value} {a b : Nat} {off : Int} {tgt : Nat} (cx : Cx l g A κ own cc L ret d mc ms hh yy) (ha : a < 2 ^ 31) (hb : b < 2 ^ 31) (hdg : decode cc pc = .ok (.if_icmp .gt off, 3)) (ht : (pc : Int) + off = (tgt : Int)) (kt : b < a → V g A κ L Q k n h tgt lv st) (kf : a ≤ b → V g A κ L Q k n h (pc + 3) lv st) : V g A κ L Q k n h pc lv (.int (nI b) :: .int (nI a) :: st) := V.icmp_gt cx hdg ht (fun c => kt ((nI_ltI hb ha).mp c)) (fun c => kf (Nat.le_of_not_lt fun e => c ((nI_ltI hb ha).mpr e)))
theorem V.nicmp_le {l : Launch} {g : GE} {A : Nat → Prop} {κ : MC} {own : String} {cc : ByteArray} {L : Nat} {ret : Option FieldType} {d mc ms : Nat} {hh : List (Nat × Nat × Nat × Nat)} {yy : MethodName} {Q : State → Prop} {k n : Nat} {h : AHT} {pc : Nat} {lv : List (Nat × Value)} {st : List Value} {a b : Nat} {off : Int} {tgt : Nat} (cx : Cx l g A κ own cc L ret d mc ms hh yy) (ha : a < 2 ^ 31) (hb : b < 2 ^ 31) (hdg : decode cc pc = .ok (.if_icmp .le off, 3)) (ht : (pc : Int) + off = (tgt : Int)) (kt : a ≤ b → V g A κ L Q k n h tgt lv st) (kf : b < a → V g A κ L Q k n h (pc + 3) lv st) : V g A κ L Q k n h pc lv (.int (nI b) :: .int (nI a) :: st) := V.icmp_le cx hdg ht (fun c => kt ((nI_leI ha hb).mp c)) (fun c => kf (Nat.lt_of_not_le fun e => c ((nI_leI ha hb).mpr e)))
theorem V.nif_eq {l : Launch} {g : GE} {A : Nat → Prop} {κ : MC} {own : String} {cc : ByteArray} {L : Nat} {ret : Option FieldType} {d mc ms : Nat} {hh : List (Nat × Nat × Nat × Nat)} {yy : MethodName} {Q : State → Prop} {k n : Nat} {h : AHT} {pc : Nat} {lv : List (Nat × Value)} {st : List Value} {a : Nat} {off : Int} {tgt : Nat} (cx : Cx l g A κ own cc L ret d mc ms hh yy) (ha : a < 2 ^ 31) (hdg : decode cc pc = .ok (.ifCond .eq off, 3)) (ht : (pc : Int) + off = (tgt : Int)) (kt : a = 0 → V g A κ L Q k n h tgt lv st) (kf : a ≠ 0 → V g A κ L Q k n h (pc + 3) lv st) : V g A κ L Q k n h pc lv (.int (nI a) :: st) := V.if_eq cx hdg ht (fun c => kt ((nI_eq ha (by decide)).mp (c.trans nI_0.symm))) (fun c => kf (fun e => c (by rw [e]; exact nI_0)))
theorem V.nif_ne {l : Launch} {g : GE} {A : Nat → Prop} {κ : MC} {own : String} {cc : ByteArray} {L : Nat} {ret : Option FieldType} {d mc ms : Nat} {hh : List (Nat × Nat × Nat × Nat)} {yy : MethodName} {Q : State → Prop} {k n : Nat} {h : AHT} {pc : Nat} {lv : List (Nat × Value)} {st : List Value} {a : Nat} {off : Int} {tgt : Nat} (cx : Cx l g A κ own cc L ret d mc ms hh yy) (ha : a < 2 ^ 31) (hdg : decode cc pc = .ok (.ifCond .ne off, 3)) (ht : (pc : Int) + off = (tgt : Int)) (kt : a ≠ 0 → V g A κ L Q k n h tgt lv st) (kf : a = 0 → V g A κ L Q k n h (pc + 3) lv st) : V g A κ L Q k n h pc lv (.int (nI a) :: st) := V.if_ne cx hdg ht (fun c => kt (fun e => c (by rw [e]; exact nI_0))) (fun c => kf ((nI_eq ha (by decide)).mp (c.trans nI_0.symm)))
theorem V.nif_gt {l : Launch} {g : GE} {A : Nat → Prop} {κ : MC} {own : String} {cc : ByteArray} {L : Nat} {ret : Option FieldType} {d mc ms : Nat} {hh : List (Nat × Nat × Nat × Nat)} {yy : MethodName} {Q : State → Prop} {k n : Nat} {h : AHT} {pc : Nat} {lv : List (Nat × Value)} {st : List Value} {a : Nat} {off : Int} {tgt : Nat} (cx : Cx l g A κ own cc L ret d mc ms hh yy) (ha : a < 2 ^ 31) (hdg : decode cc pc = .ok (.ifCond .gt off, 3)) (ht : (pc : Int) + off = (tgt : Int)) (kt : 0 < a → V g A κ L Q k n h tgt lv st) (kf : a = 0 → V g A κ L Q k n h (pc + 3) lv st) : V g A κ L Q k n h pc lv (.int (nI a) :: st) := V.if_gt cx hdg ht (fun c => kt (Nat.pos_of_ne_zero fun e => absurd (show (0 : Int32) < nI 0 from by rw [e] at c; exact c) (by decide))) (fun c => kf (Nat.eq_zero_of_not_pos fun e => c (by have := (nI_ltI (a := 0) (b := a) (by decide) ha).mpr e; rw [nI_0] at this; exact this)))
theorem V.nif_le {l : Launch} {g : GE} {A : Nat → Prop} {κ : MC} {own : String} {cc : ByteArray} {L : Nat} {ret : Option FieldType} {d mc ms : Nat} {hh : List (Nat × Nat × Nat × Nat)} {yy : MethodName} {Q : State → Prop} {k n : Nat} {h : AHT} {pc : Nat} {lv : List (Nat × Value)} {st : List Value} {a : Nat} {off : Int} {tgt : Nat} (cx : Cx l g A κ own cc L ret d mc ms hh yy) (ha : a < 2 ^ 31) (hdg : decode cc pc = .ok (.ifCond .le off, 3)) (ht : (pc : Int) + off = (tgt : Int)) (kt : a = 0 → V g A κ L Q k n h tgt lv st) (kf : 0 < a → V g A κ L Q k n h (pc + 3) lv st) : V g A κ L Q k n h pc lv (.int (nI a) :: st) := V.if_le cx hdg ht (fun c => kt (Nat.eq_zero_of_not_pos fun e => absurd c (nI_nle e ha))) (fun c => kf (Nat.pos_of_ne_zero fun e => c (by rw [e]; decide)))
theorem V.nif_lt {l : Launch} {g : GE} {A : Nat → Prop} {κ : MC} {own : String} {cc : ByteArray} {L : Nat} {ret : Option FieldType} {d mc ms : Nat} {hh : List (Nat × Nat × Nat × Nat)} {yy : MethodName} {Q : State → Prop} {k n : Nat} {h : AHT} {pc : Nat} {lv : List (Nat × Value)} {st : List Value} {a : Nat} {off : Int} {tgt : Nat} (cx : Cx l g A κ own cc L ret d mc ms hh yy) (ha : a < 2 ^ 31) (hdg : decode cc pc = .ok (.ifCond .lt off, 3)) (ht : (pc : Int) + off = (tgt : Int)) (kf : V g A κ L Q k n h (pc + 3) lv st) : V g A κ L Q k n h pc lv (.int (nI a) :: st) := V.if_lt cx hdg ht (fun c => absurd c (nI_pos ha)) (fun c => kf)
theorem V.nif_ge {l : Launch} {g : GE} {A : Nat → Prop} {κ : MC} {own : String} {cc : ByteArray} {L : Nat} {ret : Option FieldType} {d mc ms : Nat} {hh : List (Nat × Nat × Nat × Nat)} {yy : MethodName} {Q : State → Prop} {k n : Nat} {h : AHT} {pc : Nat} {lv : List (Nat × Value)} {st : List Value} {a : Nat} {off : Int} {tgt : Nat} (cx : Cx l g A κ own cc L ret d mc ms hh yy) (ha : a < 2 ^ 31) (hdg : decode cc pc = .ok (.ifCond .ge off, 3)) (ht : (pc : Int) + off = (tgt : Int)) (kt : V g A κ L Q k n h tgt lv st) : V g A κ L Q k n h pc lv (.int (nI a) :: st) := V.if_ge cx hdg ht (fun c => kt) (fun c => absurd (nI_pos' ha) c)
def b2 (b : Bool) : Int32 := if b then 1 else 0
theorem b2_narrow {b : Bool} : narrow .boolean (.int (b2 b)) = .int (b2 b) := by cases b <;> rfl
theorem V.bif_eq {l : Launch} {g : GE} {A : Nat → Prop} {κ : MC} {own : String} {cc : ByteArray} {L : Nat} {ret : Option FieldType} {d mc ms : Nat} {hh : List (Nat × Nat × Nat × Nat)} {yy : MethodName} {Q : State → Prop} {k n : Nat} {h : AHT} {pc : Nat} {lv : List (Nat × Value)} {st : List Value} {b : Bool} {off : Int} {tgt : Nat} (cx : Cx l g A κ own cc L ret d mc ms hh yy) (hdg : decode cc pc = .ok (.ifCond .eq off, 3)) (ht : (pc : Int) + off = (tgt : Int)) (kt : b = false → V g A κ L Q k n h tgt lv st) (kf : b = true → V g A κ L Q k n h (pc + 3) lv st) : V g A κ L Q k n h pc lv (.int (b2 b) :: st) := V.if_eq cx hdg ht (fun c => kt (by cases b; rfl; exact absurd c (by decide))) (fun c => kf (by cases b; exact absurd rfl c; rfl))
theorem V.bif_ne {l : Launch} {g : GE} {A : Nat → Prop} {κ : MC} {own : String} {cc : ByteArray} {L : Nat} {ret : Option FieldType} {d mc ms : Nat} {hh : List (Nat × Nat × Nat × Nat)} {yy : MethodName} {Q : State → Prop} {k n : Nat} {h : AHT} {pc : Nat} {lv : List (Nat × Value)} {st : List Value} {b : Bool} {off : Int} {tgt : Nat} (cx : Cx l g A κ own cc L ret d mc ms hh yy) (hdg : decode cc pc = .ok (.ifCond .ne off, 3)) (ht : (pc : Int) + off = (tgt : Int)) (kt : b = true → V g A κ L Q k n h tgt lv st) (kf : b = false → V g A κ L Q k n h (pc + 3) lv st) : V g A κ L Q k n h pc lv (.int (b2 b) :: st) := V.if_ne cx hdg ht (fun c => kt (by cases b; exact absurd rfl c; rfl)) (fun c => kf (by cases b; rfl; exact absurd c (by decide)))
theorem V.aaloadR {l : Launch} {g : GE} {A : Nat → Prop} {κ : MC} {own : String} {cc : ByteArray} {L : Nat} {ret : Option FieldType} {d mc ms : Nat} {hh : List (Nat × Nat × Nat × Nat)} {yy : MethodName} {Q : State → Prop} {k n : Nat} {h : AHT} {pc : Nat} {lv : List (Nat × Value)} {st : List Value} {a N j : Nat} {i : Int32} {E : String} {f : Nat → Value} (cx : Cx l g A κ own cc L ret d mc ms hh yy) (hc : g.roT a = some (.object E, N, f)) (hi : i = nI j) (hj : j < N) (hN : N < 2 ^ 24) (hdg : decode cc pc = .ok (.aaload, 1)) (kk : V g A κ L Q k n h (pc + 1) lv (f j :: st)) : V g A κ L Q k n h pc lv (.int i :: .ref a :: st) := by
  intro H locs ls hR hS hl
  have h31 : N < 2 ^ 31 := Nat.lt_trans hN (by decide)
  obtain ⟨-, -, -, -, -, -, ⟨-, -, hrt, -⟩, -⟩ := cx.world
  subst hi
  exact vb_tq cx.1 cx.2.1 (hrt a N _ f hc) hS (vp_in_nI hj h31) (by rw [nI_clamp (Nat.lt_trans hj h31)]) hdg (kk H locs ls hR hS hl)
theorem V.baloadR {l : Launch} {g : GE} {A : Nat → Prop} {κ : MC} {own : String} {cc : ByteArray} {L : Nat} {ret : Option FieldType} {d mc ms : Nat} {hh : List (Nat × Nat × Nat × Nat)} {yy : MethodName} {Q : State → Prop} {k n : Nat} {h : AHT} {pc : Nat} {lv : List (Nat × Value)} {st : List Value} {a N j : Nat} {i : Int32} {f : Nat → Value} (cx : Cx l g A κ own cc L ret d mc ms hh yy) (hc : g.roT a = some (.byte, N, f)) (hi : i = nI j) (hj : j < N) (hN : N < 2 ^ 24) (hdg : decode cc pc = .ok (.baload, 1)) (kk : V g A κ L Q k n h (pc + 1) lv (f j :: st)) : V g A κ L Q k n h pc lv (.int i :: .ref a :: st) := by
  intro H locs ls hR hS hl
  have h31 : N < 2 ^ 31 := Nat.lt_trans hN (by decide)
  obtain ⟨-, -, -, -, -, -, ⟨-, -, hrt, -⟩, -⟩ := cx.world
  subst hi
  exact va_tb cx.1 cx.2.1 (hrt a N _ f hc) hS (vp_in_nI hj h31) (by rw [nI_clamp (Nat.lt_trans hj h31)]) hdg (kk H locs ls hR hS hl)
theorem V.alenR {l : Launch} {g : GE} {A : Nat → Prop} {κ : MC} {own : String} {cc : ByteArray} {L : Nat} {ret : Option FieldType} {d mc ms : Nat} {hh : List (Nat × Nat × Nat × Nat)} {yy : MethodName} {Q : State → Prop} {k n : Nat} {h : AHT} {pc : Nat} {lv : List (Nat × Value)} {st : List Value} {a N : Nat} {ty : FieldType} {f : Nat → Value} (cx : Cx l g A κ own cc L ret d mc ms hh yy) (hc : g.roT a = some (ty, N, f)) (hdg : decode cc pc = .ok (.arraylength, 1)) (kk : V g A κ L Q k n h (pc + 1) lv (.int (nI N) :: st)) : V g A κ L Q k n h pc lv (.ref a :: st) := by
  intro H locs ls hR hS hl
  obtain ⟨-, -, -, -, -, -, ⟨-, -, hrt, -⟩, -⟩ := cx.world
  exact va_tlen cx.1 cx.2.1 (hrt a N _ f hc) hS rfl hdg (kk H locs ls hR hS hl)
theorem V.copyi {l : Launch} {g : GE} {A : Nat → Prop} {κ : MC} {own : String} {cc : ByteArray} {L : Nat} {ret : Option FieldType} {d mc ms : Nat} {hh : List (Nat × Nat × Nat × Nat)} {yy : MethodName} {Q : State → Prop} {k n : Nat} {h : AHT} {pc : Nat} {lv : List (Nat × Value)} {st : List Value} {ix a0 a n0 n1 sp dp n9 t0 t1 : Nat} {x1 x2 x3 : Int32} {f g' : Nat → Int32} {ty : FieldType} (cx : Cx l g A κ own cc L ret d mc ms hh yy) (hlk : Cond.methodLink own ix arraycopyName ∈ lw_all) (hnat : Cond.native arraycopyName ∈ lw_all) (hstt : Cond.static arraycopyName ∈ lw_all) (hini : Cond.initialized "java/lang/System" ∈ lw_all) (hc0 : h a0 = some (.inl (g.2.1 t0, n0, .inl f))) (hc1 : h a = some (.inl (g.2.1 t1, n1, .inl g'))) (ht0 : (tysG g)[t0]? = some (g.2.1 t0, ty)) (ht1 : (tysG g)[t1]? = some (g.2.1 t1, ty)) (hprim : refKind ty = false) (hx1 : x1 = nI sp) (hx2 : x2 = nI dp) (hx3 : x3 = nI n9) (h4 : sp + n9 ≤ n0) (h5 : dp + n9 ≤ n1) (hN0 : n0 < 2 ^ 24) (hN1 : n1 < 2 ^ 24) (hfit : ∀ i, i < n9 → fits ty (.int (f (sp + i))) = true) (hd : 1 ≤ d) (hlo : (st.map fun v => v.category).sum + (nativeFrameWords "java/lang/System" "arraycopy" 5 + 11) ≤ 100 * d) (hdg : decode cc pc = .ok (.invokestatic ix, 3)) (kk : V g A κ L Q k n (up h a (.inl (g.2.1 t1, n1, .inl (va_cpy f g' sp dp n9)))) (pc + 3) lv st) : V g A κ L Q k n h pc lv (.int x3 :: .int x2 :: .ref a :: .int x1 :: .ref a0 :: st) := by
  intro H locs ls hR hS hl
  obtain ⟨ws, hP, hD, h3⟩ := hR
  obtain ⟨q0, hq0⟩ := List.getElem?_of_mem (h3 _ _ hc0)
  obtain ⟨q1, hq1⟩ := List.getElem?_of_mem (h3 _ _ hc1)
  have e1 : sp < 2 ^ 31 := by omega
  have e2 : dp < 2 ^ 31 := by omega
  have e3 : n9 < 2 ^ 31 := by omega
  subst hx1 hx2 hx3
  refine va_copyi (t0 := t0) (t1 := t1) cx.1 cx.2.1 (cx.ml.trans hl.1.symm) cx.own (cx.hts _ hlk) (cx.hts _ hnat) (cx.hts _ hstt) (cx.hts _ hini) cx.world.1 hP hD hS q0 q1 hq0 hq1 ht0 ht1 hprim (nI_pos e1) (nI_pos e2) (nI_pos e3) (by rw [nI_clamp e1, nI_clamp e3]; exact h4) (by rw [nI_clamp e2, nI_clamp e3]; exact h5) (by rw [nI_clamp e1, nI_clamp e3]; exact hfit) (by rw [cx.R]; exact hd) (by rw [cx.R]; exact hlo) hdg (fun H1 locs1 hP1 hD1 hS1 => ?_)
  rw [nI_clamp e1, nI_clamp e2, nI_clamp e3] at hP1 hD1
  exact kk H1 locs1 ls (R_.set hq1 h3 hP1 hD1) hS1 hl
theorem V.copyq {l : Launch} {g : GE} {A : Nat → Prop} {κ : MC} {own : String} {cc : ByteArray} {L : Nat} {ret : Option FieldType} {d mc ms : Nat} {hh : List (Nat × Nat × Nat × Nat)} {yy : MethodName} {Q : State → Prop} {k n : Nat} {h : AHT} {pc : Nat} {lv : List (Nat × Value)} {st : List Value} {ix a0 a n0 n1 sp dp n9 t0 t1 : Nat} {x1 x2 x3 : Int32} {f g' : Nat → Option Nat} {E0 E1 : String} (cx : Cx l g A κ own cc L ret d mc ms hh yy) (hlk : Cond.methodLink own ix arraycopyName ∈ lw_all) (hnat : Cond.native arraycopyName ∈ lw_all) (hstt : Cond.static arraycopyName ∈ lw_all) (hini : Cond.initialized "java/lang/System" ∈ lw_all) (hc0 : h a0 = some (aQ g t0 n0 f)) (hc1 : h a = some (aQ g t1 n1 g')) (ht0 : (tysG g)[t0]? = some (g.2.1 t0, .object E0)) (ht1 : (tysG g)[t1]? = some (g.2.1 t1, .object E1)) (hx1 : x1 = nI sp) (hx2 : x2 = nI dp) (hx3 : x3 = nI n9) (h4 : sp + n9 ≤ n0) (h5 : dp + n9 ≤ n1) (hN0 : n0 < 2 ^ 24) (hN1 : n1 < 2 ^ 24) (hel : ∀ i, i < n9 → ∀ y : Nat, f (sp + i) = some y → ∃ C : String, Rv g h y C ∧ Cond.castable C E1 ∈ lw_tbl) (hd : 1 ≤ d) (hlo : (st.map fun v => v.category).sum + (nativeFrameWords "java/lang/System" "arraycopy" 5 + 11) ≤ 100 * d) (hdg : decode cc pc = .ok (.invokestatic ix, 3)) (kk : V g A κ L Q k n (up h a (aQ g t1 n1 (va_cpy f g' sp dp n9))) (pc + 3) lv st) : V g A κ L Q k n h pc lv (.int x3 :: .int x2 :: .ref a :: .int x1 :: .ref a0 :: st) := by
  intro H locs ls hR hS hl
  obtain ⟨ws, hP, hD, h3⟩ := hR
  obtain ⟨q0, hq0⟩ := List.getElem?_of_mem (h3 _ _ hc0)
  obtain ⟨q1, hq1⟩ := List.getElem?_of_mem (h3 _ _ hc1)
  have e1 : sp < 2 ^ 31 := by omega
  have e2 : dp < 2 ^ 31 := by omega
  have e3 : n9 < 2 ^ 31 := by omega
  subst hx1 hx2 hx3
  have hR : R_ g A h H := ⟨ws, hP, hD, h3⟩
  refine va_copyM (t0 := t0) (t1 := t1) cx.1 cx.2.1 (cx.ml.trans hl.1.symm) cx.own (cx.hts _ hlk) (cx.hts _ hnat) (cx.hts _ hstt) (cx.hts _ hini) cx.world.1 hP hD hS q0 q1 hq0 hq1 ht0 ht1 (nI_pos e1) (nI_pos e2) (nI_pos e3) (by rw [nI_clamp e1, nI_clamp e3]; exact h4) (by rw [nI_clamp e2, nI_clamp e3]; exact h5) (by rw [nI_clamp e1, nI_clamp e3]; exact fun i hi y hy => by obtain ⟨C, hv, hE⟩ := hel i hi y hy; exact hv.any cx.world hR hS (Or.inr hE)) (by rw [cx.R]; exact hd) (by rw [cx.R]; exact hlo) hdg (fun H1 locs1 hP1 hD1 hS1 => ?_)
  rw [nI_clamp e1, nI_clamp e2, nI_clamp e3] at hP1 hD1
  exact kk H1 locs1 ls (R_.set hq1 h3 hP1 hD1) hS1 hl
theorem V.hto {g : GE} {A : Nat → Prop} {κ : MC} {L : Nat} {Q : State → Prop} {k n : Nat} {h : AHT} {pc : Nat} {lv : List (Nat × Value)} {st : List Value} {h' : AHT} (e : h = h') (kk : V g A κ L Q k n h' pc lv st) : V g A κ L Q k n h pc lv st := by rw [e]; exact kk
theorem V.apart {l : Launch} {g : GE} {A : Nat → Prop} {κ : MC} {own : String} {cc : ByteArray} {L : Nat} {ret : Option FieldType} {d mc ms : Nat} {hh : List (Nat × Nat × Nat × Nat)} {yy : MethodName} {Q : State → Prop} {k n : Nat} {h : AHT} {pc : Nat} {lv : List (Nat × Value)} {st : List Value} (cx : Cx l g A κ own cc L ret d mc ms hh yy) (kk : (∀ (a : Nat) (c : va_E), h a = some c → g.ro a = none ∧ g.roT a = none) → V g A κ L Q k n h pc lv st) : V g A κ L Q k n h pc lv st := by
  intro H locs ls hR hS hl
  obtain ⟨-, -, -, -, -, -, ⟨-, hro, hrt, -⟩, -⟩ := cx.world
  refine kk (fun a c hc => ?_) H locs ls hR hS hl
  obtain ⟨ws, q0, hP, hD, hq0, -⟩ := hR.mem hc
  have hA := hD.2 q0 _ hq0
  constructor
  · cases e : g.ro a with
    | none => rfl
    | some z => obtain ⟨cell, -, -, -, hn⟩ := (hro a z.1 z.2 e).1; exact absurd hA hn
  · cases e : g.roT a with
    | none => rfl
    | some z => obtain ⟨cell, -, -, -, -, -, -, hn⟩ := hrt a z.2.1 z.1 z.2.2 e; exact absurd hA hn
theorem V.ldcM {l : Launch} {g : GE} {A : Nat → Prop} {κ : MC} {own : String} {cc : ByteArray} {L : Nat} {ret : Option FieldType} {d mc ms : Nat} {hh : List (Nat × Nat × Nat × Nat)} {yy : MethodName} {Q : State → Prop} {k n : Nat} {h : AHT} {pc : Nat} {lv : List (Nat × Value)} {st : List Value} {ix : Nat} (cx : Cx l g A κ own cc L ret d mc ms hh yy) (hcl : Cond.classLink own ix "[Ljava/lang/Object;" ∈ lw_all) (hdg : decode cc pc = .ok (.ldc ix, 2)) (kk : V g A κ L Q k n h (pc + 2) lv (.ref (g.ad 4 4) :: st)) : V g A κ L Q k n h pc lv st := fun H locs ls hR hS hl => va_ldcM cx.1 cx.2.1 cx.own (cx.hts _ hcl) cx.world.2.2.2.2.2.2.2.2.1 hdg (kk H locs ls hR hS hl)
theorem V.getC {l : Launch} {g : GE} {A : Nat → Prop} {κ : MC} {own : String} {cc : ByteArray} {L : Nat} {ret : Option FieldType} {d mc ms : Nat} {hh : List (Nat × Nat × Nat × Nat)} {yy : MethodName} {Q : State → Prop} {k n : Nat} {h : AHT} {pc : Nat} {lv : List (Nat × Value)} {st : List Value} {ix a N : Nat} {f : Nat → Option Nat} (cx : Cx l g A κ own cc L ret d mc ms hh yy) (hc : h a = some (aQ g 5 N f)) (hlk : Cond.methodLink own ix ⟨"java/lang/Object", "getClass", "()Ljava/lang/Class;"⟩ ∈ lw_all) (hsel : Cond.selects "[Ljava/lang/Object;" ⟨"java/lang/Object", "getClass", "()Ljava/lang/Class;"⟩ ⟨"java/lang/Object", "getClass", "()Ljava/lang/Class;"⟩ ∈ lw_all) (hin : Cond.instanceMethod ⟨"java/lang/Object", "getClass", "()Ljava/lang/Class;"⟩ ∈ lw_all) (hnat : Cond.native ⟨"java/lang/Object", "getClass", "()Ljava/lang/Class;"⟩ ∈ lw_all) (hd : 1 ≤ d) (hcat : (st.map fun v => v.category).sum ≤ 8) (hdg : decode cc pc = .ok (.invokevirtual ix, 3)) (kk : V g A κ L Q k n h (pc + 3) lv (.ref (g.ad 4 4) :: st)) : V g A κ L Q k n h pc lv (.ref a :: st) := by
  intro H locs ls hR hS hl
  obtain ⟨ws, q0, hP, hD, hq0, -⟩ := hR.mem hc
  obtain ⟨kA, comp, -, -, -, e1⟩ := (cx.world.1.2 5 _ rfl).2
  refine va_getC cx.1 cx.2.1 (cx.ml.trans hl.1.symm) cx.own (cx.hts _ hlk) (va_Dc.use cx.world.2.2.2.2.2.2.2.2.2) (cx.hts _ hsel) (cx.hts _ hin) (cx.hts _ hnat) cx.world.2.2.2.2.2.2.2.2.1 ⟨_, hP q0 _ hq0, rfl, e1⟩ (by rw [cx.R]; exact hd) ?_ hdg (kk H locs ls hR hS hl)
  rw [cx.R]; show _ ≤ 100 * d; omega
theorem V.callSU {l : Launch} {g : GE} {A : Nat → Prop} {κ : MC} {own : String} {cc : ByteArray} {L : Nat} {ret : Option FieldType} {d mc ms : Nat} {hh : List (Nat × Nat × Nat × Nat)} {yy : MethodName} {Q : State → Prop} {k n : Nat} {h : AHT} {pc : Nat} {lv : List (Nat × Value)} {b : Nat} {C : String} {y : MethodName} {ix d' mc' ms' : Nat} {As rest st0 : List Value} {post : Option Value → AHT → Prop} {px : String → Nat → AHT → Prop} (cx : Cx l g A κ own cc L ret d mc ms hh yy) (hM : U_ l g A y d' mc' ms' (.ref b :: As) h post px) {ci N : Nat} {T : u_T} {ty0 : Nat → FieldType} (K : Kls ci C T N ty0) (hlk : Cond.methodLink own ix y ∈ lw_all) (hsm : Cond.sameMethod y.cls y.cls y.name y.desc ∈ lw_all) (hsu : Cond.superclass own y.cls ∈ lw_all) (hin : Cond.instanceMethod y ∈ lw_all) (hy1 : y.name ≠ "<init>") (hrv : Rv g h b C) {na : Nat} (hna : As.length = na) (hn : (parseMethodDescriptor y.desc).map (fun d => d.parameters.length) = some na) (hcat : (rest.map fun v => v.category).sum ≤ 8) (hd : d' < d) (hkc : k + mc' ≤ mc) (hks : n + ms' ≤ ms) (hst : st0 = As.reverse ++ .ref b :: rest) (hdg : decode cc pc = .ok (.invokespecial ix, 3)) (kx : ∀ (E : String) (q : Nat) (h' : AHT), px E q h' → VX g A κ L Q (k + mc') (n + ms') h' pc lv E q) (kk : ∀ (v : Option Value) (h' : AHT), post v h' → V g A κ L Q (k + mc') (n + ms') h' (pc + 3) lv (v.toList ++ rest)) : V g A κ L Q k n h pc lv st0 := by
  subst hst
  subst hna
  obtain ⟨bytes, maxL, rt, hmh, hini, hL80, hir, hcode, hM⟩ := hM
  refine V.run (l := l) (a9 := (Value.ref b :: As).toArray) (fun H locs ls hR hS hl => ?_) kx kk
  have hdR : (rmd d' mc' ms').frames + 1 ≤ κ.R.frames := by rw [cx.R]; exact hd
  have hlR : 8 + (maxL + 11) + (rmd d' mc' ms').locals ≤ κ.R.locals := by rw [cx.R]; show 8 + (maxL + 11) + 100 * d' ≤ 100 * d; omega
  have hcR : k + mc' ≤ κ.R.cells ∧ n + ms' ≤ κ.R.slots := by rw [cx.R]; exact ⟨hkc, hks⟩
  have hle := cx.le
  subst hle
  have hG : GoodIn lw_all (va_wsSU own ix y (ws_ y bytes maxL rt)) := by
    refine lw_app ?_ (lw_meth hcode)
    intro w hw
    simp only [List.mem_cons, List.not_mem_nil, or_false] at hw
    rcases hw with e | e | e | e | e <;> rw [e] <;> assumption
  exact vx_runSU (nL := L) (cx.world.1.1 ci _ K.1).2 ⟨cx.1, cx.2.1, cx.ml, cx.own, cx.hts⟩ hM (va_cwSU As.length cx.hts hG rfl rfl rfl ⟨hy1, hn⟩ ⟨hdR, hlR⟩) ⟨UPc.blind, hrv.cell cx.world hR hS, fun U hU hW => UPc.now cx.world hS hR hU hW⟩ rfl rfl hl.1 rfl (lv_room hcat) hdg hcR
theorem V.toq {g : GE} {A : Nat → Prop} {κ : MC} {L : Nat} {Q : State → Prop} {k n : Nat} {h : AHT} {pc : Nat} {lv : List (Nat × Value)} {st : List Value} {o o' : Option Nat} (e : o = o') (kk : V g A κ L Q k n h pc lv (va_rf o' :: st)) : V g A κ L Q k n h pc lv (va_rf o :: st) := by rw [e]; exact kk
theorem V.tor {g : GE} {A : Nat → Prop} {κ : MC} {L : Nat} {Q : State → Prop} {k n : Nat} {h : AHT} {pc : Nat} {lv : List (Nat × Value)} {st : List Value} {a b : Nat} (e : a = b) (kk : V g A κ L Q k n h pc lv (.ref b :: st)) : V g A κ L Q k n h pc lv (.ref a :: st) := by rw [e]; exact kk
theorem V.tob {g : GE} {A : Nat → Prop} {κ : MC} {L : Nat} {Q : State → Prop} {k n : Nat} {h : AHT} {pc : Nat} {lv : List (Nat × Value)} {st : List Value} {a b : Bool} (e : a = b) (kk : V g A κ L Q k n h pc lv (.int (b2 b) :: st)) : V g A κ L Q k n h pc lv (.int (b2 a) :: st) := by rw [e]; exact kk
