/-! the G rows over cells -/
theorem gC_.v {Γ : gG} {l : Launch} {V : gV} {own : String} {cc : ByteArray} {nL : Nat} {ret : Option FieldType} {rm : Room} (C0 : gC_ Γ l V own cc nL ret rm) : gV_ Γ = V := C0.2.2.2.2.2.2.2.2.1
theorem gC_.l {Γ : gG} {l : Launch} {V : gV} {own : String} {cc : ByteArray} {nL : Nat} {ret : Option FieldType} {rm : Room} (C0 : gC_ Γ l V own cc nL ret rm) : gl_ Γ = l := C0.2.2.2.2.2.2.2.1
theorem gC_.r {Γ : gG} {l : Launch} {V : gV} {own : String} {cc : ByteArray} {nL : Nat} {ret : Option FieldType} {rm : Room} (C0 : gC_ Γ l V own cc nL ret rm) : gR_ Γ = rm := C0.2.2.2.2.2.2.2.2.2
theorem gC_.to {Γ : gG} {l : Launch} {V : gV} {own : String} {cc : ByteArray} {nL : Nat} {ret : Option FieldType} {rm : Room} (C0 : gC_ Γ l V own cc nL ret rm) {h : gH} {H : Heap} (hP : gP (gV_ Γ) h H) : gP V h H := by rw [← C0.v]; exact hP
theorem gC_.fro {Γ : gG} {l : Launch} {V : gV} {own : String} {cc : ByteArray} {nL : Nat} {ret : Option FieldType} {rm : Room} (C0 : gC_ Γ l V own cc nL ret rm) {h : gH} {H : Heap} (hP : gP V h H) : gP (gV_ Γ) h H := by rw [C0.v]; exact hP
theorem gC_.kc {Γ : gG} {l : Launch} {V : gV} {own : String} {cc : ByteArray} {nL : Nat} {ret : Option FieldType} {rm : Room} (C0 : gC_ Γ l V own cc nL ret rm) {x : Nat} (hx : x ≤ rm.cells) : x ≤ (gR_ Γ).cells := by rw [show gR_ Γ = rm from C0.r]; exact hx
theorem gC_.ks {Γ : gG} {l : Launch} {V : gV} {own : String} {cc : ByteArray} {nL : Nat} {ret : Option FieldType} {rm : Room} (C0 : gC_ Γ l V own cc nL ret rm) {x : Nat} (hx : x ≤ rm.slots) : x ≤ (gR_ Γ).slots := by rw [show gR_ Γ = rm from C0.r]; exact hx
theorem gC_.kf {Γ : gG} {l : Launch} {V : gV} {own : String} {cc : ByteArray} {nL : Nat} {ret : Option FieldType} {rm : Room} (C0 : gC_ Γ l V own cc nL ret rm) {x : Nat} (hx : x ≤ rm.frames) : x ≤ (gR_ Γ).frames := by rw [show gR_ Γ = rm from C0.r]; exact hx
theorem gC_.kl {Γ : gG} {l : Launch} {V : gV} {own : String} {cc : ByteArray} {nL : Nat} {ret : Option FieldType} {rm : Room} (C0 : gC_ Γ l V own cc nL ret rm) {x : Nat} (hx : x ≤ rm.locals) : x ≤ (gR_ Γ).locals := by rw [show gR_ Γ = rm from C0.r]; exact hx
theorem gC_.mx {Γ : gG} {l : Launch} {V : gV} {own : String} {cc : ByteArray} {nL : Nat} {ret : Option FieldType} {rm : Room} (C0 : gC_ Γ l V own cc nL ret rm) {y : MethodName} {ws : List Cond} {r0 : Room} {Pc : Array Value → State → Prop} {Qc : Array Value → State → Outcome → State → Prop} {XC : String → State → State → Prop} {mc ms : Nat} {free : Addr → Prop} (M : vx_Met l y ws r0 Pc Qc XC mc ms free) : vx_Met (gl_ Γ) y ws r0 Pc Qc XC mc ms free := by rw [show gl_ Γ = l from C0.l]; exact M
theorem gC_.kl2 {Γ : gG} {l : Launch} {V : gV} {own : String} {cc : ByteArray} {nL : Nat} {ret : Option FieldType} {rm : Room} (C0 : gC_ Γ l V own cc nL ret rm) {x : Nat} (hx : x + 12 ≤ rm.locals) : 2 * 0 + x + 12 ≤ (gR_ Γ).locals := by rw [Nat.mul_zero, Nat.zero_add]; exact C0.kl hx
/-- all that is asked of a kind of object -/
def gCl (ci : Nat) (C : String) (T : u_T) (N : Nat) (ty : Nat → FieldType) : Prop := gCls[ci]? = some (C, T, N) ∧ (∀ w ∈ u_ws C T N, w ∈ lw_all) ∧ (∀ k, k < N → parseFieldDescriptor (T k).2.2.1 = some (ty k)) ∧ (∀ a, a < N → ∀ b, b < N → a ≠ b → (T a).2.1 ≠ (T b).2.1)
/-- an object of a known class, from its cell -/
theorem gP.recv {V : gV} {h : gH} {H : Heap} {s : State} {tys : List (ClassId × FieldType)} (hP : gP V h H) (hK : va_K (gD V) gCls tys s) {a t ci : Nat} {fs : List Value} {q : vw_C} (ha : h a = some (t, .inr (ci, fs))) (hc : gCls[ci]? = some q) : ∃ cell : Cell, H[a]? = some cell ∧ cell.vm.isStatics = false ∧ s.vm.findClass q.1 = some cell.cls := by
  obtain ⟨k, hk⟩ := hP.get ha
  exact va_recv hK hP.to hc hk
/-- what may stand in a row of objects -/
def gOb (V : gV) (h : gH) (y : Nat) : Prop := (∃ (t ci : Nat) (fs : List Value) (r : vw_C), h y = some (t, .inr (ci, fs)) ∧ gCls[ci]? = some r ∧ Cond.castable r.1 "java/lang/Object" ∈ lw_tbl) ∨ ∃ k : Nat, k < 256 ∧ y = gX V (13 + k)
theorem lw_F {own : String} {index : Nat} {C : String} {x y : MethodName} (w2 : Cond.methodLink own index x ∈ lw_all) (w3 : Cond.selects C x y ∈ lw_all) (w4 : Cond.instanceMethod y ∈ lw_all) (w5 : Cond.initialized y.cls ∈ lw_all) : ∀ w ∈ ([.methodLink own index x, .selects C x y, .instanceMethod y, .initialized y.cls] : List Cond), w ∈ lw_all := by
  intro w hw
  simp only [List.mem_cons, List.not_mem_nil, or_false] at hw
  rcases hw with e | e | e | e
  · rw [e]; exact w2
  · rw [e]; exact w3
  · rw [e]; exact w4
  · rw [e]; exact w5
theorem lw_U {own owner : String} {index : Nat} {C : String} {x y : MethodName} (w2 : Cond.methodLink own index x ∈ lw_all) (w3 : Cond.sameMethod x.cls owner x.name x.desc ∈ lw_all) (w4 : Cond.selects C x y ∈ lw_all) (w5 : Cond.instanceMethod y ∈ lw_all) (w6 : Cond.initialized y.cls ∈ lw_all) : ∀ w ∈ ([.methodLink own index x, .sameMethod x.cls owner x.name x.desc, .selects C x y, .instanceMethod y, .initialized y.cls] : List Cond), w ∈ lw_all := by
  intro w hw
  simp only [List.mem_cons, List.not_mem_nil, or_false] at hw
  rcases hw with e | e | e | e | e
  · rw [e]; exact w2
  · rw [e]; exact w3
  · rw [e]; exact w4
  · rw [e]; exact w5
  · rw [e]; exact w6
section GHEAP
variable {Γ : gG} {l : Launch} {V : gV} {own : String} {cc : ByteArray} {nL : Nat} {ret : Option FieldType} {rm : Room} {h : gH} {lv : List (Nat × Value)} {k n pc : Nat} {st : List Value}
theorem gOb.any (C0 : gC_ Γ l V own cc nL ret rm) {H : Heap} {locs : List Loc} (hP : gP V h H) (hS : va_S (gA_ Γ) (gs_ Γ).heap H locs) (hci : Cond.castable "java/lang/Integer" "java/lang/Object" ∈ lw_tbl) {y : Nat} (hy : gOb V h y) : va_Any "java/lang/Object" (gs_ Γ) H y := by
  rcases hy with ⟨t, ci, fs, r, h1, h2, h3⟩ | ⟨j, hj, rfl⟩
  · obtain ⟨q, hq⟩ := hP.get h1
    exact va_rAny C0.2.2.2.1 hP.to hq h2 (fun comp c0 f1 f2 => vb_asgC (C0.2.2.2.2.1.1.1 _ _ h3) comp c0 f1 f2)
  · obtain ⟨cell, g1, g2, g3, -⟩ := (C0.2.2.2.2.1.2.2.2.2.2.2.2.1.2.2.2.1 j hj).kept hS.2.1
    obtain ⟨kC, hkC, -⟩ := Vm.findClass_spec g3
    exact ⟨cell, g1, g2, ⟨kC, hkC⟩, fun comp hc => vb_asgC (C0.2.2.2.2.1.1.1 _ _ hci) comp _ hc g3⟩
theorem g_get (C0 : gC_ Γ l V own cc nL ret rm) {ref C : String} {T : u_T} {N ci index a t : Nat} {ty : Nat → FieldType} {fs : List Value} {v : Value} (K0 : gCl ci C T N ty) (ha : h a = some (t, .inr (ci, fs))) (j : Nat) (hv : fs[j]? = some v) (w : Cond.fieldLink own index ref (T j).2.1 (T j).2.2.1 ∈ lw_all) (hr : (T j).1 = ref) (hj : j < N) (d : decode cc pc = .ok (.getfield index, 3)) (K : G Γ h lv k n (pc + 3) (v :: st)) : G Γ h lv k n pc (.ref a :: st) := by
  intro H locs ls hP hI hS hl
  have hP2 := C0.to hP
  obtain ⟨q, hq⟩ := hP2.get ha
  exact va_get (C := C) (T := T) (N := N) (ref := ref) C0.1.1 C0.1.2.1 C0.1.2.2.2.2 K0.2.1 C0.1.2.2.2.1 C0.2.2.2.1 hP2.to q hq K0.1 j hj (C0.1.2.2.2.2 _ w) (fun x hx => by rw [← hr]; exact hx) hv d (K H locs ls hP hI hS hl)
theorem g_getS (C0 : gC_ Γ l V own cc nL ret rm) {ref C : String} {T : u_T} {N ci index a t : Nat} {ty : Nat → FieldType} {fs : List Value} {v : Value} (K0 : gCl ci C T N ty) (ha : h a = some (t, .inr (ci, fs))) (j : Nat) (hv : fs[j]? = some v) (w : Cond.fieldLink own index ref (T j).2.1 (T j).2.2.1 ∈ lw_all) (hr : Cond.sameField ref (T j).1 (T j).2.1 (T j).2.2.1 ∈ lw_all) (hj : j < N) (d : decode cc pc = .ok (.getfield index, 3)) (K : G Γ h lv k n (pc + 3) (v :: st)) : G Γ h lv k n pc (.ref a :: st) := by
  intro H locs ls hP hI hS hl
  have hP2 := C0.to hP
  obtain ⟨q, hq⟩ := hP2.get ha
  exact va_get (C := C) (T := T) (N := N) (ref := ref) C0.1.1 C0.1.2.1 C0.1.2.2.2.2 K0.2.1 C0.1.2.2.2.1 C0.2.2.2.1 hP2.to q hq K0.1 j hj (C0.1.2.2.2.2 _ w) (fun x hx => u_same (C0.1.2.2.2.2 _ hr) x hx) hv d (K H locs ls hP hI hS hl)
theorem g_getN (C0 : gC_ Γ l V own cc nL ret rm) {ref C host : String} {T : u_T} {N ci index a t : Nat} {ty : Nat → FieldType} {fs : List Value} {v : Value} (K0 : gCl ci C T N ty) (ha : h a = some (t, .inr (ci, fs))) (j : Nat) (hv : fs[j]? = some v) (w : Cond.fieldLinkNest own index ref (T j).2.1 (T j).2.2.1 host ∈ lw_tbl) (hr : (T j).1 = ref) (hj : j < N) (d : decode cc pc = .ok (.getfield index, 3)) (K : G Γ h lv k n (pc + 3) (v :: st)) : G Γ h lv k n pc (.ref a :: st) := by
  intro H locs ls hP hI hS hl
  have hP2 := C0.to hP
  obtain ⟨q, hq⟩ := hP2.get ha
  exact va_getN (C := C) (T := T) (N := N) (ref := ref) (host := host) C0.1.1 C0.1.2.1 C0.1.2.2.2.2 K0.2.1 C0.1.2.2.2.1 C0.2.2.2.1 hP2.to q hq K0.1 j hj (va_Nw.use rfl (C0.2.2.2.2.1.1.2.1 _ _ _ _ _ _ w)) (fun x hx => by rw [← hr]; exact hx) hv d (K H locs ls hP hI hS hl)
theorem g_put (C0 : gC_ Γ l V own cc nL ret rm) {ref C : String} {T : u_T} {N ci index a t : Nat} {ty : Nat → FieldType} {fs fs' : List Value} {v : Value} (K0 : gCl ci C T N ty) (ha : h a = some (t, .inr (ci, fs))) (j : Nat) (e : fs.set j v = fs') (w : Cond.fieldLink own index ref (T j).2.1 (T j).2.2.1 ∈ lw_all) (hr : (T j).1 = ref) (hj : j < N) (hfin : (T j).2.2.2 = false) (hn : narrow (ty j) v = v) (hfit : fits (ty j) v = true) (hlen : j < fs.length) (d : decode cc pc = .ok (.putfield index, 3)) (K : G Γ (gU h a (t, .inr (ci, fs'))) lv k n (pc + 3) st) : G Γ h lv k n pc (v :: .ref a :: st) := by
  intro H locs ls hP hI hS hl
  have hP2 := C0.to hP
  obtain ⟨q, hq⟩ := hP2.get ha
  subst e
  exact va_put (C := C) (T := T) (N := N) (ref := ref) (ty := ty j) C0.1.1 C0.1.2.1 C0.1.2.2.2.2 K0.2.1 ty K0.2.2.1 K0.2.2.2 C0.1.2.2.2.1 C0.2.2.2.1 hP2.to hI.to hS q hq K0.1 j hj (C0.1.2.2.2.2 _ w) (fun x hx => by rw [← hr]; exact hx) hfin (K0.2.2.1 j hj) hn hfit hlen d
    (fun H1 locs1 hP1 hD1 hS1 => K H1 locs1 ls (C0.fro (hP2.set hq hP1)) (hI.put (hI a _ ha)) hS1 hl)
theorem g_putS (C0 : gC_ Γ l V own cc nL ret rm) {ref C : String} {T : u_T} {N ci index a t : Nat} {ty : Nat → FieldType} {fs fs' : List Value} {v : Value} (K0 : gCl ci C T N ty) (ha : h a = some (t, .inr (ci, fs))) (j : Nat) (e : fs.set j v = fs') (w : Cond.fieldLink own index ref (T j).2.1 (T j).2.2.1 ∈ lw_all) (hr : Cond.sameField ref (T j).1 (T j).2.1 (T j).2.2.1 ∈ lw_all) (hj : j < N) (hfin : (T j).2.2.2 = false) (hn : narrow (ty j) v = v) (hfit : fits (ty j) v = true) (hlen : j < fs.length) (d : decode cc pc = .ok (.putfield index, 3)) (K : G Γ (gU h a (t, .inr (ci, fs'))) lv k n (pc + 3) st) : G Γ h lv k n pc (v :: .ref a :: st) := by
  intro H locs ls hP hI hS hl
  have hP2 := C0.to hP
  obtain ⟨q, hq⟩ := hP2.get ha
  subst e
  exact va_put (C := C) (T := T) (N := N) (ref := ref) (ty := ty j) C0.1.1 C0.1.2.1 C0.1.2.2.2.2 K0.2.1 ty K0.2.2.1 K0.2.2.2 C0.1.2.2.2.1 C0.2.2.2.1 hP2.to hI.to hS q hq K0.1 j hj (C0.1.2.2.2.2 _ w) (fun x hx => u_same (C0.1.2.2.2.2 _ hr) x hx) hfin (K0.2.2.1 j hj) hn hfit hlen d
    (fun H1 locs1 hP1 hD1 hS1 => K H1 locs1 ls (C0.fro (hP2.set hq hP1)) (hI.put (hI a _ ha)) hS1 hl)
theorem g_putF (C0 : gC_ Γ l V own cc nL ret rm) {ref C : String} {T : u_T} {N ci index a t : Nat} {ty : Nat → FieldType} {fs fs' : List Value} {v : Value} (K0 : gCl ci C T N ty) (ha : h a = some (t, .inr (ci, fs))) (j : Nat) (e : fs.set j v = fs') (w : Cond.fieldLink own index ref (T j).2.1 (T j).2.2.1 ∈ lw_all) (hr : (T j).1 = ref) (hj : j < N) (hfin : (T j).2.2.2 = true) (hin2 : (gh_ Γ).name = "<init>") (hdecl : (T j).1 = own) (hn : narrow (ty j) v = v) (hfit : fits (ty j) v = true) (hlen : j < fs.length) (d : decode cc pc = .ok (.putfield index, 3)) (K : G Γ (gU h a (t, .inr (ci, fs'))) lv k n (pc + 3) st) : G Γ h lv k n pc (v :: .ref a :: st) := by
  intro H locs ls hP hI hS hl
  have hP2 := C0.to hP
  obtain ⟨q, hq⟩ := hP2.get ha
  subst e
  exact va_putF (C := C) (T := T) (N := N) (ref := ref) (ty := ty j) C0.1.1 C0.1.2.1 C0.1.2.2.2.2 K0.2.1 ty K0.2.2.1 K0.2.2.2 C0.1.2.2.2.1 C0.2.2.2.1 hP2.to hI.to hS q hq K0.1 j hj (C0.1.2.2.2.2 _ w) (fun x hx => by rw [← hr]; exact hx) hfin hin2 hdecl (K0.2.2.1 j hj) hn hfit hlen d
    (fun H1 locs1 hP1 hD1 hS1 => K H1 locs1 ls (C0.fro (hP2.set hq hP1)) (hI.put (hI a _ ha)) hS1 hl)
theorem g_putN (C0 : gC_ Γ l V own cc nL ret rm) {host : String} {ref C : String} {T : u_T} {N ci index a t : Nat} {ty : Nat → FieldType} {fs fs' : List Value} {v : Value} (K0 : gCl ci C T N ty) (ha : h a = some (t, .inr (ci, fs))) (j : Nat) (e : fs.set j v = fs') (w : Cond.fieldLinkNest own index ref (T j).2.1 (T j).2.2.1 host ∈ lw_tbl) (hr : (T j).1 = ref) (hj : j < N) (hfin : (T j).2.2.2 = false) (hn : narrow (ty j) v = v) (hfit : fits (ty j) v = true) (hlen : j < fs.length) (d : decode cc pc = .ok (.putfield index, 3)) (K : G Γ (gU h a (t, .inr (ci, fs'))) lv k n (pc + 3) st) : G Γ h lv k n pc (v :: .ref a :: st) := by
  intro H locs ls hP hI hS hl
  have hP2 := C0.to hP
  obtain ⟨q, hq⟩ := hP2.get ha
  subst e
  exact va_putN (C := C) (T := T) (N := N) (ref := ref) (host := host) (ty := ty j) C0.1.1 C0.1.2.1 C0.1.2.2.2.2 K0.2.1 ty K0.2.2.1 K0.2.2.2 C0.1.2.2.2.1 C0.2.2.2.1 hP2.to hI.to hS q hq K0.1 j hj (va_Nw.use rfl (C0.2.2.2.2.1.1.2.1 _ _ _ _ _ _ w)) (fun x hx => by rw [← hr]; exact hx) hfin (K0.2.2.1 j hj) hn hfit hlen d
    (fun H1 locs1 hP1 hD1 hS1 => K H1 locs1 ls (C0.fro (hP2.set hq hP1)) (hI.put (hI a _ ha)) hS1 hl)
theorem g_iald (C0 : gC_ Γ l V own cc nL ret rm) {a t m : Nat} {f : Nat → Int32} (ha : h a = some (t, .inl (gK V 0, m, .inl f))) {i : Int32} (hin : vp_in i m) (d : decode cc pc = .ok (.iaload, 1)) (K : G Γ h lv k n (pc + 1) (.int (f i.toNatClampNeg) :: st)) : G Γ h lv k n pc (.int i :: .ref a :: st) := by
  intro H locs ls hP hI hS hl
  have hP2 := C0.to hP
  obtain ⟨q, hq⟩ := hP2.get ha
  exact va_iald C0.1.1 C0.1.2.1 C0.2.2.2.1 hP2.to q 0 hq rfl hin d (K H locs ls hP hI hS hl)
theorem g_zald (C0 : gC_ Γ l V own cc nL ret rm) {a t m : Nat} {f : Nat → Int32} (ha : h a = some (t, .inl (gK V 2, m, .inl f))) {i : Int32} (hin : vp_in i m) (d : decode cc pc = .ok (.baload, 1)) (K : G Γ h lv k n (pc + 1) (.int (f i.toNatClampNeg) :: st)) : G Γ h lv k n pc (.int i :: .ref a :: st) := by
  intro H locs ls hP hI hS hl
  have hP2 := C0.to hP
  obtain ⟨q, hq⟩ := hP2.get ha
  exact va_zald C0.1.1 C0.1.2.1 C0.2.2.2.1 hP2.to q 2 hq rfl hin d (K H locs ls hP hI hS hl)
theorem g_lald (C0 : gC_ Γ l V own cc nL ret rm) {a t m : Nat} {f : Nat → Int64} (ha : h a = some (t, .inl (gK V 3, m, .inr (.inl f)))) {i : Int32} (hin : vp_in i m) (d : decode cc pc = .ok (.laload, 1)) (K : G Γ h lv k n (pc + 1) (.long (f i.toNatClampNeg) :: st)) : G Γ h lv k n pc (.int i :: .ref a :: st) := by
  intro H locs ls hP hI hS hl
  have hP2 := C0.to hP
  obtain ⟨q, hq⟩ := hP2.get ha
  exact va_lald C0.1.1 C0.1.2.1 C0.2.2.2.1 hP2.to q 3 hq rfl hin d (K H locs ls hP hI hS hl)
theorem g_aald (C0 : gC_ Γ l V own cc nL ret rm) {a t m : Nat} {f : Nat → Option Nat} (ha : h a = some (t, .inl (gK V 1, m, .inr (.inr (.inr (.inr f)))))) {i : Int32} (hin : vp_in i m) (d : decode cc pc = .ok (.aaload, 1)) (K : G Γ h lv k n (pc + 1) (va_rf (f i.toNatClampNeg) :: st)) : G Γ h lv k n pc (.int i :: .ref a :: st) := by
  intro H locs ls hP hI hS hl
  have hP2 := C0.to hP
  obtain ⟨q, hq⟩ := hP2.get ha
  exact va_aldq C0.1.1 C0.1.2.1 C0.2.2.2.1 hP2.to q 1 hq rfl hin d (K H locs ls hP hI hS hl)
theorem g_iast (C0 : gC_ Γ l V own cc nL ret rm) {a t m : Nat} {f f' : Nat → Int32} (ha : h a = some (t, .inl (gK V 0, m, .inl f))) {i : Int32} {x : Int32} (hin : vp_in i m) (d : decode cc pc = .ok (.iastore, 1)) (e : upd f i.toNatClampNeg x = f') (K : G Γ (gU h a (t, .inl (gK V 0, m, .inl f'))) lv k n (pc + 1) st) : G Γ h lv k n pc (.int x :: .int i :: .ref a :: st) := by
  intro H locs ls hP hI hS hl
  have hP2 := C0.to hP
  obtain ⟨q, hq⟩ := hP2.get ha
  subst e
  exact va_iast C0.1.1 C0.1.2.1 C0.2.2.2.1 hP2.to hI.to hS q 0 hq rfl hin d (fun H1 locs1 hP1 hD1 hS1 => K H1 locs1 ls (C0.fro (hP2.set hq hP1)) (hI.put (hI a _ ha)) hS1 hl)
theorem g_zast (C0 : gC_ Γ l V own cc nL ret rm) {a t m : Nat} {f f' : Nat → Int32} (ha : h a = some (t, .inl (gK V 2, m, .inl f))) {i : Int32} {x : Int32} (hin : vp_in i m) (d : decode cc pc = .ok (.bastore, 1)) (e : upd f i.toNatClampNeg (vp_nar .boolean x) = f') (K : G Γ (gU h a (t, .inl (gK V 2, m, .inl f'))) lv k n (pc + 1) st) : G Γ h lv k n pc (.int x :: .int i :: .ref a :: st) := by
  intro H locs ls hP hI hS hl
  have hP2 := C0.to hP
  obtain ⟨q, hq⟩ := hP2.get ha
  subst e
  exact va_zast C0.1.1 C0.1.2.1 C0.2.2.2.1 hP2.to hI.to hS q 2 hq rfl hin d (fun H1 locs1 hP1 hD1 hS1 => K H1 locs1 ls (C0.fro (hP2.set hq hP1)) (hI.put (hI a _ ha)) hS1 hl)
theorem g_last (C0 : gC_ Γ l V own cc nL ret rm) {a t m : Nat} {f f' : Nat → Int64} (ha : h a = some (t, .inl (gK V 3, m, .inr (.inl f)))) {i : Int32} {x : Int64} (hin : vp_in i m) (d : decode cc pc = .ok (.lastore, 1)) (e : vp_updL f i.toNatClampNeg x = f') (K : G Γ (gU h a (t, .inl (gK V 3, m, .inr (.inl f')))) lv k n (pc + 1) st) : G Γ h lv k n pc (.long x :: .int i :: .ref a :: st) := by
  intro H locs ls hP hI hS hl
  have hP2 := C0.to hP
  obtain ⟨q, hq⟩ := hP2.get ha
  subst e
  exact va_last C0.1.1 C0.1.2.1 C0.2.2.2.1 hP2.to hI.to hS q 3 hq rfl hin d (fun H1 locs1 hP1 hD1 hS1 => K H1 locs1 ls (C0.fro (hP2.set hq hP1)) (hI.put (hI a _ ha)) hS1 hl)
theorem g_aast (C0 : gC_ Γ l V own cc nL ret rm) (hci : Cond.castable "java/lang/Integer" "java/lang/Object" ∈ lw_tbl) {a t m : Nat} {f f' : Nat → Option Nat} (ha : h a = some (t, .inl (gK V 1, m, .inr (.inr (.inr (.inr f)))))) {i : Int32} {x : Nat} (hx : gOb V h x) (hin : vp_in i m) (d : decode cc pc = .ok (.aastore, 1)) (e : va_up f i.toNatClampNeg (some x) = f') (K : G Γ (gU h a (t, .inl (gK V 1, m, .inr (.inr (.inr (.inr f')))))) lv k n (pc + 1) st) : G Γ h lv k n pc (.ref x :: .int i :: .ref a :: st) := by
  intro H locs ls hP hI hS hl
  have hP2 := C0.to hP
  obtain ⟨q, hq⟩ := hP2.get ha
  subst e
  exact va_astqM C0.1.1 C0.1.2.1 C0.2.2.2.1 hP2.to hI.to hS q 1 hq rfl (hx.any C0 hP2 hS hci) hin d (fun H1 locs1 hP1 hD1 hS1 => K H1 locs1 ls (C0.fro (hP2.set hq hP1)) (hI.put (hI a _ ha)) hS1 hl)
theorem g_aastN (C0 : gC_ Γ l V own cc nL ret rm) {a t m : Nat} {f f' : Nat → Option Nat} (ha : h a = some (t, .inl (gK V 1, m, .inr (.inr (.inr (.inr f)))))) {i : Int32} (hin : vp_in i m) (d : decode cc pc = .ok (.aastore, 1)) (e : va_up f i.toNatClampNeg none = f') (K : G Γ (gU h a (t, .inl (gK V 1, m, .inr (.inr (.inr (.inr f')))))) lv k n (pc + 1) st) : G Γ h lv k n pc (.null :: .int i :: .ref a :: st) := by
  intro H locs ls hP hI hS hl
  have hP2 := C0.to hP
  obtain ⟨q, hq⟩ := hP2.get ha
  subst e
  exact va_astqN C0.1.1 C0.1.2.1 C0.2.2.2.1 hP2.to hI.to hS q 1 hq rfl hin d (fun H1 locs1 hP1 hD1 hS1 => K H1 locs1 ls (C0.fro (hP2.set hq hP1)) (hI.put (hI a _ ha)) hS1 hl)
theorem g_alen (C0 : gC_ Γ l V own cc nL ret rm) {a t j : Nat} {ty : FieldType} {cA : ClassId} {x : vp_A} (ha : h a = some (t, .inl (cA, x))) (ht : (gTys V)[j]? = some (cA, ty)) {v : Int32} (hv : Int32.ofNat x.1 = v) (d : decode cc pc = .ok (.arraylength, 1)) (K : G Γ h lv k n (pc + 1) (.int v :: st)) : G Γ h lv k n pc (.ref a :: st) := by
  intro H locs ls hP hI hS hl
  have hP2 := C0.to hP
  obtain ⟨q, hq⟩ := hP2.get ha
  exact va_alen C0.1.1 C0.1.2.1 C0.2.2.2.1 hP2.to q j hq ht hv d (K H locs ls hP hI hS hl)
/-- a new object; its tag is yours to choose -/
theorem g_new (C0 : gC_ Γ l V own cc nL ret rm) (t : Nat) {C : String} {T : u_T} {N ci index : Nat} {ty : Nat → FieldType} {fs : List Value} (K0 : gCl ci C T N ty) (w1 : Cond.classLink own index C ∈ lw_all) (w2 : Cond.instantiable C N ∈ lw_all) (w3 : Cond.initialized C ∈ lw_all) (hfs : ∀ j, j < N → defaultValue (ty j) = vp_V fs j) (hk : k + 1 ≤ rm.cells) (hn : n + N ≤ rm.slots) (d : decode cc pc = .ok (.new index, 3)) (K : ∀ q : Nat, h q = none → G Γ (gU h q (t, .inr (ci, fs))) lv (k + 1) (n + N) (pc + 3) (.ref q :: st)) : G Γ h lv k n pc st := by
  intro H locs ls hP hI hS hl
  have hP2 := C0.to hP
  have hts := C0.1.2.2.2.2
  exact va_new (T := T) C0.1.1 C0.1.2.1 hts K0.2.1 ty K0.2.2.1 C0.1.2.2.2.1 (hts _ w1) (hts _ w2) (hts _ w3) C0.2.2.2.1 hP2.to hI.to hS C0.2.2.2.2.2.1 K0.1 hfs (C0.kc hk) (C0.ks hn) d
    (fun q H1 hP1 hD1 hS1 => K q (hP2.fresh hD1) H1 locs ls (C0.fro (hP2.push hP1)) (hI.put (gP.fresh' hD1)) hS1 hl)
theorem g_newi (C0 : gC_ Γ l V own cc nL ret rm) (t : Nat) (w : Cond.arrayClass (newarray.typeOf .int) ∈ lw_all) {i : Int32} {m : Nat} (hi : ¬ i < 0) (hm : i.toNatClampNeg = m) (hb : m * componentBytes .int ≤ 536870912) (hk : k + 1 ≤ rm.cells) (hn : n + m ≤ rm.slots) (d : decode cc pc = .ok (.newarray .int, 2)) (K : ∀ q : Nat, h q = none → G Γ (gU h q (t, .inl (gK V 0, m, .inl (fun _ => 0)))) lv (k + 1) (n + m) (pc + 2) (.ref q :: st)) : G Γ h lv k n pc (.int i :: st) := by
  intro H locs ls hP hI hS hl
  have hP2 := C0.to hP
  have hts := C0.1.2.2.2.2
  refine va_newa (atype := .int) (a0 := (m, .inl (fun _ => 0))) C0.1.1 C0.1.2.1 (hts _ w) rfl C0.2.2.2.1 hP2.to hI.to hS C0.2.2.2.2.2.1 (fun cA => rfl) hi hm hb (C0.kc hk) (C0.ks hn) d (fun q cA H1 hK1 hP1 hD1 hS1 => ?_)
  have e1 := (hK1.2 4 (cA, .int) rfl).2
  have e2 := (C0.2.2.2.1.2 0 (gK V 0, .int) rfl).2
  have e3 : cA = gK V 0 := Option.some.inj (Eq.trans (Eq.symm e1) e2)
  subst e3
  exact K q (hP2.fresh hD1) H1 locs ls (C0.fro (hP2.push hP1)) (hI.put (gP.fresh' hD1)) hS1 hl
theorem g_newz (C0 : gC_ Γ l V own cc nL ret rm) (t : Nat) (w : Cond.arrayClass (newarray.typeOf .boolean) ∈ lw_all) {i : Int32} {m : Nat} (hi : ¬ i < 0) (hm : i.toNatClampNeg = m) (hb : m * componentBytes .boolean ≤ 536870912) (hk : k + 1 ≤ rm.cells) (hn : n + m ≤ rm.slots) (d : decode cc pc = .ok (.newarray .boolean, 2)) (K : ∀ q : Nat, h q = none → G Γ (gU h q (t, .inl (gK V 2, m, .inl (fun _ => 0)))) lv (k + 1) (n + m) (pc + 2) (.ref q :: st)) : G Γ h lv k n pc (.int i :: st) := by
  intro H locs ls hP hI hS hl
  have hP2 := C0.to hP
  have hts := C0.1.2.2.2.2
  refine va_newa (atype := .boolean) (a0 := (m, .inl (fun _ => 0))) C0.1.1 C0.1.2.1 (hts _ w) rfl C0.2.2.2.1 hP2.to hI.to hS C0.2.2.2.2.2.1 (fun cA => rfl) hi hm hb (C0.kc hk) (C0.ks hn) d (fun q cA H1 hK1 hP1 hD1 hS1 => ?_)
  have e1 := (hK1.2 4 (cA, .boolean) rfl).2
  have e2 := (C0.2.2.2.1.2 2 (gK V 2, .boolean) rfl).2
  have e3 : cA = gK V 2 := Option.some.inj (Eq.trans (Eq.symm e1) e2)
  subst e3
  exact K q (hP2.fresh hD1) H1 locs ls (C0.fro (hP2.push hP1)) (hI.put (gP.fresh' hD1)) hS1 hl
theorem g_newl (C0 : gC_ Γ l V own cc nL ret rm) (t : Nat) (w : Cond.arrayClass (newarray.typeOf .long) ∈ lw_all) {i : Int32} {m : Nat} (hi : ¬ i < 0) (hm : i.toNatClampNeg = m) (hb : m * componentBytes .long ≤ 536870912) (hk : k + 1 ≤ rm.cells) (hn : n + m ≤ rm.slots) (d : decode cc pc = .ok (.newarray .long, 2)) (K : ∀ q : Nat, h q = none → G Γ (gU h q (t, .inl (gK V 3, m, .inr (.inl (fun _ => 0))))) lv (k + 1) (n + m) (pc + 2) (.ref q :: st)) : G Γ h lv k n pc (.int i :: st) := by
  intro H locs ls hP hI hS hl
  have hP2 := C0.to hP
  have hts := C0.1.2.2.2.2
  refine va_newa (atype := .long) (a0 := (m, .inr (.inl (fun _ => 0)))) C0.1.1 C0.1.2.1 (hts _ w) rfl C0.2.2.2.1 hP2.to hI.to hS C0.2.2.2.2.2.1 (fun cA => rfl) hi hm hb (C0.kc hk) (C0.ks hn) d (fun q cA H1 hK1 hP1 hD1 hS1 => ?_)
  have e1 := (hK1.2 4 (cA, .long) rfl).2
  have e2 := (C0.2.2.2.1.2 3 (gK V 3, .long) rfl).2
  have e3 : cA = gK V 3 := Option.some.inj (Eq.trans (Eq.symm e1) e2)
  subst e3
  exact K q (hP2.fresh hD1) H1 locs ls (C0.fro (hP2.push hP1)) (hI.put (gP.fresh' hD1)) hS1 hl
theorem g_newq (C0 : gC_ Γ l V own cc nL ret rm) (t : Nat) {index : Nat} (w : Cond.classLink own index "java/lang/Object" ∈ lw_all) {i : Int32} {m : Nat} (hi : ¬ i < 0) (hm : i.toNatClampNeg = m) (hb : m * 4 ≤ 536870912) (hk : k + 1 ≤ rm.cells) (hn : n + m ≤ rm.slots) (d : decode cc pc = .ok (.anewarray index, 3)) (K : ∀ q : Nat, h q = none → G Γ (gU h q (t, .inl (gK V 1, m, .inr (.inr (.inr (.inr (fun _ => none))))))) lv (k + 1) (n + m) (pc + 3) (.ref q :: st)) : G Γ h lv k n pc (.int i :: st) := by
  intro H locs ls hP hI hS hl
  have hP2 := C0.to hP
  have hts := C0.1.2.2.2.2
  refine va_newq C0.1.1 C0.1.2.1 C0.1.2.2.2.1 (hts _ w) C0.2.2.2.2.1.1.2.2.2.1 C0.2.2.2.1 hP2.to hI.to hS C0.2.2.2.2.2.1 hi hm hb (C0.kc hk) (C0.ks hn) d (fun q cA H1 hK1 hP1 hD1 hS1 => ?_)
  have e1 := (hK1.2 4 (cA, .object "java/lang/Object") rfl).2
  have e2 := (C0.2.2.2.1.2 1 (gK V 1, .object "java/lang/Object") rfl).2
  obtain ⟨-, -, -, -, -, e1⟩ := e1
  obtain ⟨-, -, -, -, -, e2⟩ := e2
  have e3 : cA = gK V 1 := Option.some.inj (e1.symm.trans e2)
  subst e3
  exact K q (hP2.fresh hD1) H1 locs ls (C0.fro (hP2.push hP1)) (hI.put (gP.fresh' hD1)) hS1 hl
theorem g_objInit (C0 : gC_ Γ l V own cc nL ret rm) {index a : Nat} (w1 : Cond.methodLink own index Lib.objectInit ∈ lw_all) (w2 : Cond.instanceMethod Lib.objectInit ∈ lw_all) (w3 : Cond.code Lib.objectInit ⟨#[0xb1]⟩ 1 none ∈ lw_all) (d : decode cc pc = .ok (.invokespecial index, 3)) (hf : 1 ≤ rm.frames) (hlo : (st.map fun v => v.category).sum + 12 ≤ rm.locals) (K : G Γ h lv k n (pc + 3) st) : G Γ h lv k n pc (.ref a :: st) := by
  intro H locs ls hP hI hS hl
  have hts := C0.1.2.2.2.2
  refine W.objInit C0.1.1 C0.1.2.1 C0.1.2.2.2.1 (hts _ w1) (hts _ w2) (hts _ w3) rfl hl.1 rfl d (C0.kf hf) (C0.kl2 hlo) ?_
  exact W.eq (g2 := F0 (gm_ Γ) (pc + 3) ls st) rfl (K H locs ls hP hI hS hl)
theorem g_cast (C0 : gC_ Γ l V own cc nL ret rm) {index a t ci : Nat} {fs : List Value} {q : vw_C} (ha : h a = some (t, .inr (ci, fs))) (hc : gCls[ci]? = some q) (w : Cond.classLink own index q.1 ∈ lw_all) (d : decode cc pc = .ok (.checkcast index, 3)) (K : G Γ h lv k n (pc + 3) (.ref a :: st)) : G Γ h lv k n pc (.ref a :: st) := by
  intro H locs ls hP hI hS hl
  have hP2 := C0.to hP
  exact va_castS (cC := V.1 ci) C0.1.1 C0.1.2.1 C0.1.2.2.2.1 (C0.1.2.2.2.2 _ w) (C0.2.2.2.1.1 ci q hc).2 (hP2.recv C0.2.2.2.1 ha hc) d (K H locs ls hP hI hS hl)
theorem g_ti (C0 : gC_ Γ l V own cc nL ret rm) {t N : Nat} {f : Nat → Value} {i : Int32} {v : Value} (hT : va_T .int t N f (gA_ Γ) (gs_ Γ) (gs_ Γ).heap) (hin : vp_in i N) (hv : f i.toNatClampNeg = v) (d : decode cc pc = .ok (.iaload, 1)) (K : G Γ h lv k n (pc + 1) (v :: st)) : G Γ h lv k n pc (.int i :: .ref t :: st) := fun H locs ls hP hI hS hl => va_ti C0.1.1 C0.1.2.1 hT hS hin hv d (K H locs ls hP hI hS hl)
theorem g_gets (C0 : gC_ Γ l V own cc nL ret rm) {C nm ds ref : String} {v : Value} {index : Nat} (hZ : va_Z C nm ds v (gA_ Γ) (gs_ Γ) (gs_ Γ).heap) (w : Cond.fieldLink own index ref nm ds ∈ lw_all) (hr : C = ref) (d : decode cc pc = .ok (.getstatic index, 3)) (K : G Γ h lv k n (pc + 3) (v :: st)) : G Γ h lv k n pc st := fun H locs ls hP hI hS hl => va_gets C0.1.1 C0.1.2.1 hZ hS C0.1.2.2.2.1 (C0.1.2.2.2.2 _ w) (fun x hx => by rw [← hr]; exact hx) d (K H locs ls hP hI hS hl)
theorem g_getsN (C0 : gC_ Γ l V own cc nL ret rm) {C nm ds ref : String} {v : Value} {index : Nat} (hZ : va_Z C nm ds v (gA_ Γ) (gs_ Γ) (gs_ Γ).heap) (w : (Cond.fieldLink own index ref nm ds).before (ga_ Γ) (gs_ Γ) = true) (hr : C = ref) (d : decode cc pc = .ok (.getstatic index, 3)) (K : G Γ h lv k n (pc + 3) (v :: st)) : G Γ h lv k n pc st := fun H locs ls hP hI hS hl => va_gets C0.1.1 C0.1.2.1 hZ hS C0.1.2.2.2.1 w (fun x hx => by rw [← hr]; exact hx) d (K H locs ls hP hI hS hl)
/-! calls -/
theorem gIn.all (C0 : gC_ Γ l V own cc nL ret rm) {H : Heap} {locs : List Loc} (hI : gIn (gA_ Γ) h) (hS : va_S (gA_ Γ) (gs_ Γ).heap H locs) : ∀ q, gA h H.size q → gA_ Γ q := by
  intro q hq
  rcases hq with ⟨x, hx⟩ | hq
  · exact hI q x hx
  · exact C0.2.2.2.2.2.1 q (Nat.le_trans hS.1 hq)
theorem gPre.blind {As : List Value} {sz : Nat} : FrameBlind (va_Pc As (gPre V h sz)) := by
  intro a U g mk q
  obtain ⟨q0, q1, q2, q3, q4⟩ := q
  exact ⟨q0, q1, q2, va_K.moved (u := U) (U := U.calling g mk a) (Vm.Alike.refl U.vm) q3, q4.same rfl⟩
theorem gPre.at (C0 : gC_ Γ l V own cc nL ret rm) {H : Heap} {locs : List Loc} (hP : gP V h H) (hI : gIn (gA_ Γ) h) (hS : va_S (gA_ Γ) (gs_ Γ).heap H locs) {U : State} (hU : U.heap = H) (hW : (gs_ Γ).WarmedH U.vm) : gPre V h H.size U :=
  ⟨by rw [hU], by rw [hU]; exact hP, va_K.moved hW.alike C0.2.2.2.1, by rw [hU]; exact C0.2.2.2.2.1.go hW hS.2.1 (hI.all C0 hS)⟩
theorem g_run (C0 : gC_ Γ l V own cc nL ret rm) {mc ms : Nat} {rest : List Value} {a : Array Value} {post : gR → gH → Prop}
    (hr : ∀ (H : Heap) (locs : List Loc) (ls : Array Slot), gP V h H → gIn (gA_ Γ) h → va_S (gA_ Γ) (gs_ Γ).heap H locs → ls.size = (gc_ Γ).maxLocals →
      vx_Run Γ.1 Γ.2.1 Γ.2.2.1 Γ.2.2.2.1 Γ.2.2.2.2.1 Γ.2.2.2.2.2.1 Γ.2.2.2.2.2.2.1 Γ.2.2.2.2.2.2.2.1 Γ.2.2.2.2.2.2.2.2.1 Γ.2.2.2.2.2.2.2.2.2.1 H locs k n mc ms (F0 (gm_ Γ) pc ls st) rest (gQc V (gA h H.size) post a) (gXc V (gA h H.size) post) (gA h H.size))
    (KK : ∀ (r : Option Value) (h' : gH), post (.inl r) h' → G Γ h' lv (k + mc) (n + ms) (pc + 3) (r.toList ++ rest))
    (KX : ∀ (E : String) (h' : gH), post (.inr E) h' → GX Γ h' lv (k + mc) (n + ms) pc E) : G Γ h lv k n pc st := by
  intro H locs ls hP hI hS hl T hT X
  have hf := hI.all C0 hS
  rcases hr H locs ls (C0.to hP) hI hS hl.1 T hT X with ⟨v, st₀, t, T', L, h0, X', hL, e1, e2, ⟨⟨r, h', hv, hp, hP', hI'⟩, hF⟩, sg⟩ | ⟨q, st₀, t, T', L, E, ce, h0, X', hL, e1, e2, ⟨⟨h', hp, hP', hI'⟩, hF⟩, hce, hcv, hcl, sg⟩
  · cases hv
    obtain ⟨k1, k2, k3⟩ := vx_keep h0 e1 hS (fun q _ hq => hf q hq) hf hL hF
    obtain ⟨t2, a1, b1⟩ := KK v h' hp T'.heap (locs ++ L) ls (C0.fro (by rw [e1]; exact hP')) (fun a x hx => hf a (hI' a x hx)) k3 hl T' rfl X'
    exact ⟨t2, sg t2 a1, b1⟩
  · obtain ⟨k1, k2, k3⟩ := vx_keep h0 e1 hS (fun q _ hq => hf q hq) hf hL hF
    obtain ⟨t2, a1, b1⟩ := KX E h' hp T'.heap (locs ++ L) ls rest q ce (C0.fro (by rw [e1]; exact hP')) (fun a x hx => hf a (hI' a x hx)) k3 hl (by rw [e1]; exact hce) hcv hcl T' rfl X'
    exact ⟨t2, sg.trans a1, b1⟩
theorem g_run5 (C0 : gC_ Γ l V own cc nL ret rm) {mc ms : Nat} {rest : List Value} {a : Array Value} {post : gR → gH → Prop}
    (hr : ∀ (H : Heap) (locs : List Loc) (ls : Array Slot), gP V h H → gIn (gA_ Γ) h → va_S (gA_ Γ) (gs_ Γ).heap H locs → ls.size = (gc_ Γ).maxLocals →
      vx_Run5 Γ.1 Γ.2.1 Γ.2.2.1 Γ.2.2.2.1 Γ.2.2.2.2.1 Γ.2.2.2.2.2.1 Γ.2.2.2.2.2.2.1 Γ.2.2.2.2.2.2.2.1 Γ.2.2.2.2.2.2.2.2.1 Γ.2.2.2.2.2.2.2.2.2.1 H locs k n mc ms (F0 (gm_ Γ) pc ls st) rest (gQc V (gA h H.size) post a) (gXc V (gA h H.size) post) (gA h H.size))
    (KK : ∀ (r : Option Value) (h' : gH), post (.inl r) h' → G Γ h' lv (k + mc) (n + ms) (pc + 5) (r.toList ++ rest))
    (KX : ∀ (E : String) (h' : gH), post (.inr E) h' → GX Γ h' lv (k + mc) (n + ms) pc E) : G Γ h lv k n pc st := by
  intro H locs ls hP hI hS hl T hT X
  have hf := hI.all C0 hS
  rcases hr H locs ls (C0.to hP) hI hS hl.1 T hT X with ⟨v, st₀, t, T', L, h0, X', hL, e1, e2, ⟨⟨r, h', hv, hp, hP', hI'⟩, hF⟩, sg⟩ | ⟨q, st₀, t, T', L, E, ce, h0, X', hL, e1, e2, ⟨⟨h', hp, hP', hI'⟩, hF⟩, hce, hcv, hcl, sg⟩
  · cases hv
    obtain ⟨k1, k2, k3⟩ := vx_keep h0 e1 hS (fun q _ hq => hf q hq) hf hL hF
    obtain ⟨t2, a1, b1⟩ := KK v h' hp T'.heap (locs ++ L) ls (C0.fro (by rw [e1]; exact hP')) (fun a x hx => hf a (hI' a x hx)) k3 hl T' rfl X'
    exact ⟨t2, sg t2 a1, b1⟩
  · obtain ⟨k1, k2, k3⟩ := vx_keep h0 e1 hS (fun q _ hq => hf q hq) hf hL hF
    obtain ⟨t2, a1, b1⟩ := KX E h' hp T'.heap (locs ++ L) ls rest q ce (C0.fro (by rw [e1]; exact hP')) (fun a x hx => hf a (hI' a x hx)) k3 hl (by rw [e1]; exact hce) hcv hcl T' rfl X'
    exact ⟨t2, sg.trans a1, b1⟩
theorem g_callV (C0 : gC_ Γ l V own cc nL ret rm) {y : MethodName} {code' : ByteArray} {nL' fr lo mc ms index nA : Nat} {As rest : List Value} {post : gR → gH → Prop} {ret' : Option FieldType} {C : String} {b t ci : Nat} {fs : List Value} {q : vw_C} (M : MX l V y code' nL' ret' fr lo mc ms (.ref b :: As) h post) (w : GoodIn lw_all (wsV own index C y (ws_ y code' nL' ret'))) (hb : h b = some (t, .inr (ci, fs))) (hc : gCls[ci]? = some q) (hq : q.1 = C) (hd : y.cls = C ∧ y.cls ≠ "java/lang/invoke/MethodHandle" ∧ y.cls ≠ "java/lang/invoke/VarHandle" ∧ (parseMethodDescriptor y.desc).map (fun d => d.parameters.length) = some nA) (hA : As.length = nA) (hR : fr + 1 ≤ rm.frames ∧ 8 + (nL' + 11) + lo ≤ rm.locals ∧ k + mc ≤ rm.cells ∧ n + ms ≤ rm.slots) (hst : st = As.reverse ++ .ref b :: rest) (hW : (rest.map fun v => v.category).sum ≤ 8) (d : decode cc pc = .ok (.invokevirtual index, 3)) (KK : ∀ (r : Option Value) (h' : gH), post (.inl r) h' → G Γ h' lv (k + mc) (n + ms) (pc + 3) (r.toList ++ rest)) (KX : ∀ (E : String) (h' : gH), post (.inr E) h' → GX Γ h' lv (k + mc) (n + ms) pc E) : G Γ h lv k n pc st := by
  subst hst
  subst hq
  refine g_run (post := post) (mc := mc) (ms := ms) (rest := rest) (a := (.ref b :: As).toArray) C0 (fun H locs ls hP hI hS hz => ?_) KK KX
  exact vx_runV (As := As) (rest := rest) ⟨C0.1.1, C0.1.2.1, rfl, C0.1.2.2.2.1, C0.1.2.2.2.2⟩ (C0.mx (M C0.2.2.2.2.2.2.1 H.size)) (cwV nA C0.1.2.2.2.2 w rfl rfl rfl hd ⟨C0.kf hR.1, C0.kl hR.2.1⟩) ⟨gPre.blind, hP.recv C0.2.2.2.1 hb hc, fun U hU hW => ⟨rfl, gPre.at C0 hP hI hS hU hW⟩⟩ rfl hA hz rfl (lv_room hW) d ⟨C0.kc hR.2.2.1, C0.ks hR.2.2.2⟩
theorem g_callS (C0 : gC_ Γ l V own cc nL ret rm) {y : MethodName} {code' : ByteArray} {nL' fr lo mc ms index nA : Nat} {As rest : List Value} {post : gR → gH → Prop} {ret' : Option FieldType} (M : MX l V y code' nL' ret' fr lo mc ms (As) h post) (w : GoodIn lw_all (va_wsS own index y (ws_ y code' nL' ret'))) (hd : y.cls ≠ "java/lang/invoke/MethodHandle" ∧ y.cls ≠ "java/lang/invoke/VarHandle" ∧ (parseMethodDescriptor y.desc).map (fun d => d.parameters.length) = some nA) (hA : As.length = nA) (hR : fr + 1 ≤ rm.frames ∧ 8 + (nL' + 11) + lo ≤ rm.locals ∧ k + mc ≤ rm.cells ∧ n + ms ≤ rm.slots) (hst : st = As.reverse ++ rest) (hW : (rest.map fun v => v.category).sum ≤ 8) (d : decode cc pc = .ok (.invokestatic index, 3)) (KK : ∀ (r : Option Value) (h' : gH), post (.inl r) h' → G Γ h' lv (k + mc) (n + ms) (pc + 3) (r.toList ++ rest)) (KX : ∀ (E : String) (h' : gH), post (.inr E) h' → GX Γ h' lv (k + mc) (n + ms) pc E) : G Γ h lv k n pc st := by
  subst hst
  refine g_run (post := post) (mc := mc) (ms := ms) (rest := rest) (a := (As).toArray) C0 (fun H locs ls hP hI hS hz => ?_) KK KX
  exact vx_runS (As := As) (rest := rest) ⟨C0.1.1, C0.1.2.1, rfl, C0.1.2.2.2.1, C0.1.2.2.2.2⟩ (C0.mx (M C0.2.2.2.2.2.2.1 H.size)) (va_cwS nA C0.1.2.2.2.2 w rfl rfl rfl hd ⟨C0.kf hR.1, C0.kl hR.2.1⟩) ⟨gPre.blind, fun U hU hW => ⟨rfl, gPre.at C0 hP hI hS hU hW⟩⟩ rfl hA hz rfl (lv_room hW) d ⟨C0.kc hR.2.2.1, C0.ks hR.2.2.2⟩
theorem g_callI (C0 : gC_ Γ l V own cc nL ret rm) {y : MethodName} {code' : ByteArray} {nL' fr lo mc ms index nA : Nat} {As rest : List Value} {post : gR → gH → Prop} {b : Nat} (M : MX l V y code' nL' none fr lo mc ms (.ref b :: As) h post) (w1 : Cond.code y code' nL' none ∈ lw_all) (w2 : Cond.initialized y.cls ∈ lw_all) (w3 : Cond.methodLink own index y ∈ lw_all) (w4 : Cond.instanceMethod y ∈ lw_all) (hy : y.name = "<init>") (hd : y.cls ≠ "java/lang/invoke/MethodHandle" ∧ y.cls ≠ "java/lang/invoke/VarHandle" ∧ (parseMethodDescriptor y.desc).map (fun d => d.parameters.length) = some nA) (hA : As.length = nA) (hR : fr + 1 ≤ rm.frames ∧ 8 + (nL' + 11) + lo ≤ rm.locals ∧ k + mc ≤ rm.cells ∧ n + ms ≤ rm.slots) (hst : st = As.reverse ++ .ref b :: rest) (hW : (rest.map fun v => v.category).sum ≤ 8) (d : decode cc pc = .ok (.invokespecial index, 3)) (KK : ∀ (r : Option Value) (h' : gH), post (.inl r) h' → G Γ h' lv (k + mc) (n + ms) (pc + 3) (r.toList ++ rest)) (KX : ∀ (E : String) (h' : gH), post (.inr E) h' → GX Γ h' lv (k + mc) (n + ms) pc E) : G Γ h lv k n pc st := by
  subst hst
  refine g_run (post := post) (mc := mc) (ms := ms) (rest := rest) (a := (.ref b :: As).toArray) C0 (fun H locs ls hP hI hS hz => ?_) KK KX
  exact vx_runI (As := As) (rest := rest) ⟨C0.1.1, C0.1.2.1, rfl, C0.1.2.2.2.1, C0.1.2.2.2.2⟩ (C0.mx (M C0.2.2.2.2.2.2.1 H.size)) (cwI nA C0.1.2.2.2.2 (lw_meth w1) rfl rfl rfl (C0.1.2.2.2.2 _ w2) (C0.1.2.2.2.2 _ w3) (C0.1.2.2.2.2 _ w4) hy hd ⟨C0.kf hR.1, C0.kl hR.2.1⟩) ⟨gPre.blind, fun U hU hW => ⟨rfl, gPre.at C0 hP hI hS hU hW⟩⟩ rfl hA hz rfl (lv_room hW) d ⟨C0.kc hR.2.2.1, C0.ks hR.2.2.2⟩
theorem g_callVN (C0 : gC_ Γ l V own cc nL ret rm) {y : MethodName} {code' : ByteArray} {nL' fr lo mc ms index nA : Nat} {As rest : List Value} {post : gR → gH → Prop} {ret' : Option FieldType} {C : String} {b t ci : Nat} {fs : List Value} {q : vw_C} (M : MX l V y code' nL' ret' fr lo mc ms (.ref b :: As) h post) {host : String} (w1 : Cond.code y code' nL' ret' ∈ lw_all) (w2 : Cond.methodLinkNest own index y host ∈ lw_tbl) (w3 : Cond.initialized y.cls ∈ lw_all) (w4 : Cond.instanceMethod y ∈ lw_all) (w5 : Cond.selects C y y ∈ lw_all) (hb : h b = some (t, .inr (ci, fs))) (hc : gCls[ci]? = some q) (hq : q.1 = C) (hd : y.cls ≠ "java/lang/invoke/MethodHandle" ∧ y.cls ≠ "java/lang/invoke/VarHandle" ∧ (parseMethodDescriptor y.desc).map (fun d => d.parameters.length) = some nA) (hA : As.length = nA) (hR : fr + 1 ≤ rm.frames ∧ 8 + (nL' + 11) + lo ≤ rm.locals ∧ k + mc ≤ rm.cells ∧ n + ms ≤ rm.slots) (hst : st = As.reverse ++ .ref b :: rest) (hW : (rest.map fun v => v.category).sum ≤ 8) (d : decode cc pc = .ok (.invokevirtual index, 3)) (KK : ∀ (r : Option Value) (h' : gH), post (.inl r) h' → G Γ h' lv (k + mc) (n + ms) (pc + 3) (r.toList ++ rest)) (KX : ∀ (E : String) (h' : gH), post (.inr E) h' → GX Γ h' lv (k + mc) (n + ms) pc E) : G Γ h lv k n pc st := by
  subst hst
  subst hq
  refine g_run (post := post) (mc := mc) (ms := ms) (rest := rest) (a := (.ref b :: As).toArray) C0 (fun H locs ls hP hI hS hz => ?_) KK KX
  exact vx_runVN (As := As) (rest := rest) ⟨C0.1.1, C0.1.2.1, rfl, C0.1.2.2.2.1, C0.1.2.2.2.2⟩ (C0.mx (M C0.2.2.2.2.2.2.1 H.size)) ⟨va_cnB (host := host) nA C0.1.2.2.2.2 (lw_meth w1) rfl rfl rfl (C0.2.2.2.2.1.1.2.2.1 _ _ _ _ w2) (C0.1.2.2.2.2 _ w3) hd ⟨C0.kf hR.1, C0.kl hR.2.1⟩, C0.1.2.2.2.2 _ w4, C0.1.2.2.2.2 _ w5⟩ ⟨gPre.blind, hP.recv C0.2.2.2.1 hb hc, fun U hU hW => ⟨rfl, gPre.at C0 hP hI hS hU hW⟩⟩ rfl hA hz rfl (lv_room hW) d ⟨C0.kc hR.2.2.1, C0.ks hR.2.2.2⟩
theorem g_callSN (C0 : gC_ Γ l V own cc nL ret rm) {y : MethodName} {code' : ByteArray} {nL' fr lo mc ms index nA : Nat} {As rest : List Value} {post : gR → gH → Prop} {ret' : Option FieldType} (M : MX l V y code' nL' ret' fr lo mc ms (As) h post) {host : String} (w1 : Cond.code y code' nL' ret' ∈ lw_all) (w2 : Cond.methodLinkNest own index y host ∈ lw_tbl) (w3 : Cond.initialized y.cls ∈ lw_all) (w4 : Cond.static y ∈ lw_all) (hd : y.cls ≠ "java/lang/invoke/MethodHandle" ∧ y.cls ≠ "java/lang/invoke/VarHandle" ∧ (parseMethodDescriptor y.desc).map (fun d => d.parameters.length) = some nA) (hA : As.length = nA) (hR : fr + 1 ≤ rm.frames ∧ 8 + (nL' + 11) + lo ≤ rm.locals ∧ k + mc ≤ rm.cells ∧ n + ms ≤ rm.slots) (hst : st = As.reverse ++ rest) (hW : (rest.map fun v => v.category).sum ≤ 8) (d : decode cc pc = .ok (.invokestatic index, 3)) (KK : ∀ (r : Option Value) (h' : gH), post (.inl r) h' → G Γ h' lv (k + mc) (n + ms) (pc + 3) (r.toList ++ rest)) (KX : ∀ (E : String) (h' : gH), post (.inr E) h' → GX Γ h' lv (k + mc) (n + ms) pc E) : G Γ h lv k n pc st := by
  subst hst
  refine g_run (post := post) (mc := mc) (ms := ms) (rest := rest) (a := (As).toArray) C0 (fun H locs ls hP hI hS hz => ?_) KK KX
  exact vx_runSN (As := As) (rest := rest) ⟨C0.1.1, C0.1.2.1, rfl, C0.1.2.2.2.1, C0.1.2.2.2.2⟩ (C0.mx (M C0.2.2.2.2.2.2.1 H.size)) ⟨va_cnB (host := host) nA C0.1.2.2.2.2 (lw_meth w1) rfl rfl rfl (C0.2.2.2.2.1.1.2.2.1 _ _ _ _ w2) (C0.1.2.2.2.2 _ w3) hd ⟨C0.kf hR.1, C0.kl hR.2.1⟩, C0.1.2.2.2.2 _ w4, trivial⟩ ⟨gPre.blind, fun U hU hW => ⟨rfl, gPre.at C0 hP hI hS hU hW⟩⟩ rfl hA hz rfl (lv_room hW) d ⟨C0.kc hR.2.2.1, C0.ks hR.2.2.2⟩
theorem g_callIN (C0 : gC_ Γ l V own cc nL ret rm) {y : MethodName} {code' : ByteArray} {nL' fr lo mc ms index nA : Nat} {As rest : List Value} {post : gR → gH → Prop} {b : Nat} (M : MX l V y code' nL' none fr lo mc ms (.ref b :: As) h post) {host : String} (w1 : Cond.code y code' nL' none ∈ lw_all) (w2 : Cond.methodLinkNest own index y host ∈ lw_tbl) (w3 : Cond.initialized y.cls ∈ lw_all) (w4 : Cond.instanceMethod y ∈ lw_all) (hy : y.name = "<init>") (hd : y.cls ≠ "java/lang/invoke/MethodHandle" ∧ y.cls ≠ "java/lang/invoke/VarHandle" ∧ (parseMethodDescriptor y.desc).map (fun d => d.parameters.length) = some nA) (hA : As.length = nA) (hR : fr + 1 ≤ rm.frames ∧ 8 + (nL' + 11) + lo ≤ rm.locals ∧ k + mc ≤ rm.cells ∧ n + ms ≤ rm.slots) (hst : st = As.reverse ++ .ref b :: rest) (hW : (rest.map fun v => v.category).sum ≤ 8) (d : decode cc pc = .ok (.invokespecial index, 3)) (KK : ∀ (r : Option Value) (h' : gH), post (.inl r) h' → G Γ h' lv (k + mc) (n + ms) (pc + 3) (r.toList ++ rest)) (KX : ∀ (E : String) (h' : gH), post (.inr E) h' → GX Γ h' lv (k + mc) (n + ms) pc E) : G Γ h lv k n pc st := by
  subst hst
  refine g_run (post := post) (mc := mc) (ms := ms) (rest := rest) (a := (.ref b :: As).toArray) C0 (fun H locs ls hP hI hS hz => ?_) KK KX
  exact vx_runIN (As := As) (rest := rest) ⟨C0.1.1, C0.1.2.1, rfl, C0.1.2.2.2.1, C0.1.2.2.2.2⟩ (C0.mx (M C0.2.2.2.2.2.2.1 H.size)) ⟨va_cnB (host := host) nA C0.1.2.2.2.2 (lw_meth w1) rfl rfl rfl (C0.2.2.2.2.1.1.2.2.1 _ _ _ _ w2) (C0.1.2.2.2.2 _ w3) hd ⟨C0.kf hR.1, C0.kl hR.2.1⟩, hy, C0.1.2.2.2.2 _ w4⟩ ⟨gPre.blind, fun U hU hW => ⟨rfl, gPre.at C0 hP hI hS hU hW⟩⟩ rfl hA hz rfl (lv_room hW) d ⟨C0.kc hR.2.2.1, C0.ks hR.2.2.2⟩
theorem g_callF (C0 : gC_ Γ l V own cc nL ret rm) {y : MethodName} {code' : ByteArray} {nL' fr lo mc ms index nA : Nat} {As rest : List Value} {post : gR → gH → Prop} {ret' : Option FieldType} {C : String} {b t ci : Nat} {fs : List Value} {q : vw_C} (M : MX l V y code' nL' ret' fr lo mc ms (.ref b :: As) h post) {x : MethodName} {count : Nat} (w1 : Cond.code y code' nL' ret' ∈ lw_all) (w2 : Cond.methodLink own index x ∈ lw_all) (w3 : Cond.selects C x y ∈ lw_all) (w4 : Cond.instanceMethod y ∈ lw_all) (w5 : Cond.initialized y.cls ∈ lw_all) (w6 : gFok C x y) (hb : h b = some (t, .inr (ci, fs))) (hc : gCls[ci]? = some q) (hq : q.1 = C) (hd : x.cls ≠ "java/lang/invoke/MethodHandle" ∧ x.cls ≠ "java/lang/invoke/VarHandle" ∧ (parseMethodDescriptor x.desc).map (fun d => d.parameters.length) = some nA) (hA : As.length = nA) (hR : fr + 1 ≤ rm.frames ∧ 8 + (nL' + 11) + lo ≤ rm.locals ∧ k + mc ≤ rm.cells ∧ n + ms ≤ rm.slots) (hst : st = As.reverse ++ .ref b :: rest) (hW : (rest.map fun v => v.category).sum ≤ 8) (d : decode cc pc = .ok (.invokeinterface index count, 5)) (KK : ∀ (r : Option Value) (h' : gH), post (.inl r) h' → G Γ h' lv (k + mc) (n + ms) (pc + 5) (r.toList ++ rest)) (KX : ∀ (E : String) (h' : gH), post (.inr E) h' → GX Γ h' lv (k + mc) (n + ms) pc E) : G Γ h lv k n pc st := by
  subst hst
  subst hq
  refine g_run5 (post := post) (mc := mc) (ms := ms) (rest := rest) (a := (.ref b :: As).toArray) C0 (fun H locs ls hP hI hS hz => ?_) KK KX
  exact vx_runF (As := As) (rest := rest) (count := count) (C0.2.2.2.1.1 ci q hc).2 ⟨C0.1.1, C0.1.2.1, rfl, C0.1.2.2.2.1, C0.1.2.2.2.2⟩ (C0.mx (M C0.2.2.2.2.2.2.1 H.size)) (va_cwF nA C0.1.2.2.2.2 (lw_app (lw_F w2 w3 w4 w5) (lw_meth w1)) rfl rfl rfl (C0.2.2.2.2.1.1.2.2.2.2.1 _ _ _ w6) hd ⟨C0.kf hR.1, C0.kl hR.2.1⟩) ⟨gPre.blind, hP.recv C0.2.2.2.1 hb hc, fun U hU hW => ⟨rfl, gPre.at C0 hP hI hS hU hW⟩⟩ rfl hA hz rfl (lv_room hW) d ⟨C0.kc hR.2.2.1, C0.ks hR.2.2.2⟩
theorem g_callU (C0 : gC_ Γ l V own cc nL ret rm) {y : MethodName} {code' : ByteArray} {nL' fr lo mc ms index nA : Nat} {As rest : List Value} {post : gR → gH → Prop} {ret' : Option FieldType} {C : String} {b t ci : Nat} {fs : List Value} {q : vw_C} (M : MX l V y code' nL' ret' fr lo mc ms (.ref b :: As) h post) {x : MethodName} {owner : String} (w1 : Cond.code y code' nL' ret' ∈ lw_all) (w2 : Cond.methodLink own index x ∈ lw_all) (w3 : Cond.sameMethod x.cls owner x.name x.desc ∈ lw_all) (w4 : Cond.selects C x y ∈ lw_all) (w5 : Cond.instanceMethod y ∈ lw_all) (w6 : Cond.initialized y.cls ∈ lw_all) (hyx : y = ⟨owner, x.name, x.desc⟩) (hb : h b = some (t, .inr (ci, fs))) (hc : gCls[ci]? = some q) (hq : q.1 = C) (hd : owner ≠ "java/lang/invoke/MethodHandle" ∧ owner ≠ "java/lang/invoke/VarHandle" ∧ (parseMethodDescriptor x.desc).map (fun d => d.parameters.length) = some nA) (hA : As.length = nA) (hR : fr + 1 ≤ rm.frames ∧ 8 + (nL' + 11) + lo ≤ rm.locals ∧ k + mc ≤ rm.cells ∧ n + ms ≤ rm.slots) (hst : st = As.reverse ++ .ref b :: rest) (hW : (rest.map fun v => v.category).sum ≤ 8) (d : decode cc pc = .ok (.invokevirtual index, 3)) (KK : ∀ (r : Option Value) (h' : gH), post (.inl r) h' → G Γ h' lv (k + mc) (n + ms) (pc + 3) (r.toList ++ rest)) (KX : ∀ (E : String) (h' : gH), post (.inr E) h' → GX Γ h' lv (k + mc) (n + ms) pc E) : G Γ h lv k n pc st := by
  subst hst
  subst hq
  refine g_run (post := post) (mc := mc) (ms := ms) (rest := rest) (a := (.ref b :: As).toArray) C0 (fun H locs ls hP hI hS hz => ?_) KK KX
  exact vx_runU (As := As) (rest := rest) ⟨C0.1.1, C0.1.2.1, rfl, C0.1.2.2.2.1, C0.1.2.2.2.2⟩ (C0.mx (M C0.2.2.2.2.2.2.1 H.size)) (va_cwU nA C0.1.2.2.2.2 (lw_app (lw_U w2 w3 w4 w5 w6) (lw_meth w1)) rfl rfl rfl hyx hd ⟨C0.kf hR.1, C0.kl hR.2.1⟩) ⟨gPre.blind, hP.recv C0.2.2.2.1 hb hc, fun U hU hW => ⟨rfl, gPre.at C0 hP hI hS hU hW⟩⟩ rfl hA hz rfl (lv_room hW) d ⟨C0.kc hR.2.2.1, C0.ks hR.2.2.2⟩
theorem g_tlen (C0 : gC_ Γ l V own cc nL ret rm) {ty : FieldType} {t N : Nat} {f : Nat → Value} {v : Int32} (hT : va_T ty t N f (gA_ Γ) (gs_ Γ) (gs_ Γ).heap) (hv : Int32.ofNat N = v) (d : decode cc pc = .ok (.arraylength, 1)) (K : G Γ h lv k n (pc + 1) (.int v :: st)) : G Γ h lv k n pc (.ref t :: st) := fun H locs ls hP hI hS hl => va_tlen C0.1.1 C0.1.2.1 hT hS hv d (K H locs ls hP hI hS hl)
theorem g_tq (C0 : gC_ Γ l V own cc nL ret rm) {C : String} {t N : Nat} {f : Nat → Value} {i : Int32} {v : Value} (hT : va_T (.object C) t N f (gA_ Γ) (gs_ Γ) (gs_ Γ).heap) (hin : vp_in i N) (hv : f i.toNatClampNeg = v) (d : decode cc pc = .ok (.aaload, 1)) (K : G Γ h lv k n (pc + 1) (v :: st)) : G Γ h lv k n pc (.int i :: .ref t :: st) := fun H locs ls hP hI hS hl => vb_tq C0.1.1 C0.1.2.1 hT hS hin hv d (K H locs ls hP hI hS hl)
theorem g_ldcM (C0 : gC_ Γ l V own cc nL ret rm) {index : Nat} (w : Cond.classLink own index "[Ljava/lang/Object;" ∈ lw_all) (d : decode cc pc = .ok (.ldc index, 2)) (K : G Γ h lv k n (pc + 2) (.ref (gX V 11) :: st)) : G Γ h lv k n pc st := fun H locs ls hP hI hS hl => va_ldcM C0.1.1 C0.1.2.1 C0.1.2.2.2.1 (C0.1.2.2.2.2 _ w) C0.2.2.2.2.1.1.2.2.2.2.2.1 d (K H locs ls hP hI hS hl)
theorem g_getC (C0 : gC_ Γ l V own cc nL ret rm) {index a t : Nat} {x : vp_A} (ha : h a = some (t, .inl (gK V 1, x))) (w : Cond.methodLink own index ⟨"java/lang/Object", "getClass", "()Ljava/lang/Class;"⟩ ∈ lw_all) (w1 : Cond.selects "[Ljava/lang/Object;" ⟨"java/lang/Object", "getClass", "()Ljava/lang/Class;"⟩ ⟨"java/lang/Object", "getClass", "()Ljava/lang/Class;"⟩ ∈ lw_all) (w2 : Cond.instanceMethod ⟨"java/lang/Object", "getClass", "()Ljava/lang/Class;"⟩ ∈ lw_all) (w3 : Cond.native ⟨"java/lang/Object", "getClass", "()Ljava/lang/Class;"⟩ ∈ lw_all) (hf : 1 ≤ rm.frames) (hlo : (st.map fun v => v.category).sum + 14 ≤ rm.locals) (d : decode cc pc = .ok (.invokevirtual index, 3)) (K : G Γ h lv k n (pc + 3) (.ref (gX V 11) :: st)) : G Γ h lv k n pc (.ref a :: st) := by
  intro H locs ls hP hI hS hl
  have hP2 := C0.to hP
  have hx := hP2 a _ ha
  have hnm : (gs_ Γ).vm.findClass "[Ljava/lang/Object;" = some (gK V 1) := va_nmO (C0.2.2.2.1.2 1 (gK V 1, .object "java/lang/Object") rfl).2 (by decide +kernel)
  exact va_getC C0.1.1 C0.1.2.1 hl.1.symm C0.1.2.2.2.1 (C0.1.2.2.2.2 _ w) (va_Dc.use C0.2.2.2.2.1.1.2.2.2.2.2.2.1) (C0.1.2.2.2.2 _ w1) (C0.1.2.2.2.2 _ w2) (C0.1.2.2.2.2 _ w3) C0.2.2.2.2.1.1.2.2.2.2.2.1
    ⟨_, hx, by obtain ⟨m, f | f | f | f | f⟩ := x <;> rfl, by rw [hnm]; obtain ⟨m, f | f | f | f | f⟩ := x <;> rfl⟩ (C0.kf hf) (C0.kl hlo) d (K H locs ls hP hI hS hl)
theorem g_copyi (C0 : gC_ Γ l V own cc nL ret rm) {index a0 a t0 t1 n0 n1 : Nat} {f g g' : Nat → Int32} (w : Cond.methodLink own index arraycopyName ∈ lw_all) (w1 : Cond.native arraycopyName ∈ lw_all) (w2 : Cond.static arraycopyName ∈ lw_all) (w3 : Cond.initialized "java/lang/System" ∈ lw_all) (h0 : h a0 = some (t0, .inl (gK V 0, n0, .inl f))) (h1 : h a = some (t1, .inl (gK V 0, n1, .inl g)))
    {sp dp m : Int32} (g1 : ¬ sp < 0) (g2 : ¬ dp < 0) (g3 : ¬ m < 0) (g4 : sp.toNatClampNeg + m.toNatClampNeg ≤ n0) (g5 : dp.toNatClampNeg + m.toNatClampNeg ≤ n1) (hf : 1 ≤ rm.frames) (hlo : (st.map fun v => v.category).sum + (nativeFrameWords "java/lang/System" "arraycopy" 5 + 11) ≤ rm.locals) (d : decode cc pc = .ok (.invokestatic index, 3)) (e : va_cpy f g sp.toNatClampNeg dp.toNatClampNeg m.toNatClampNeg = g')
    (K : G Γ (gU h a (t1, .inl (gK V 0, n1, .inl g'))) lv k n (pc + 3) st) : G Γ h lv k n pc (.int m :: .int dp :: .ref a :: .int sp :: .ref a0 :: st) := by
  intro H locs ls hP hI hS hl
  have hP2 := C0.to hP
  obtain ⟨q0, hq0⟩ := hP2.get h0
  obtain ⟨q1, hq1⟩ := hP2.get h1
  subst e
  exact va_copyi C0.1.1 C0.1.2.1 hl.1.symm C0.1.2.2.2.1 (C0.1.2.2.2.2 _ w) (C0.1.2.2.2.2 _ w1) (C0.1.2.2.2.2 _ w2) (C0.1.2.2.2.2 _ w3) C0.2.2.2.1 hP2.to hI.to hS q0 q1 0 0 hq0 hq1 rfl rfl rfl g1 g2 g3 g4 g5 (fun _ _ => rfl) (C0.kf hf) (C0.kl hlo) d (fun H1 locs1 hP1 hD1 hS1 => K H1 locs1 ls (C0.fro (hP2.set hq1 hP1)) (hI.put (hI a _ h1)) hS1 hl)
theorem g_copyq (C0 : gC_ Γ l V own cc nL ret rm) {index a0 a t0 t1 n0 n1 : Nat} {f g g' : Nat → Option Nat} (w : Cond.methodLink own index arraycopyName ∈ lw_all) (w1 : Cond.native arraycopyName ∈ lw_all) (w2 : Cond.static arraycopyName ∈ lw_all) (w3 : Cond.initialized "java/lang/System" ∈ lw_all) (hci : Cond.castable "java/lang/Integer" "java/lang/Object" ∈ lw_tbl) (h0 : h a0 = some (t0, .inl (gK V 1, n0, .inr (.inr (.inr (.inr f)))))) (h1 : h a = some (t1, .inl (gK V 1, n1, .inr (.inr (.inr (.inr g))))))
    {sp dp m : Int32} (g1 : ¬ sp < 0) (g2 : ¬ dp < 0) (g3 : ¬ m < 0) (g4 : sp.toNatClampNeg + m.toNatClampNeg ≤ n0) (g5 : dp.toNatClampNeg + m.toNatClampNeg ≤ n1) (hob : ∀ j y : Nat, f j = some y → gOb V h y) (hf : 1 ≤ rm.frames) (hlo : (st.map fun v => v.category).sum + (nativeFrameWords "java/lang/System" "arraycopy" 5 + 11) ≤ rm.locals) (d : decode cc pc = .ok (.invokestatic index, 3)) (e : va_cpy f g sp.toNatClampNeg dp.toNatClampNeg m.toNatClampNeg = g')
    (K : G Γ (gU h a (t1, .inl (gK V 1, n1, .inr (.inr (.inr (.inr g')))))) lv k n (pc + 3) st) : G Γ h lv k n pc (.int m :: .int dp :: .ref a :: .int sp :: .ref a0 :: st) := by
  intro H locs ls hP hI hS hl
  have hP2 := C0.to hP
  obtain ⟨q0, hq0⟩ := hP2.get h0
  obtain ⟨q1, hq1⟩ := hP2.get h1
  subst e
  exact va_copyM C0.1.1 C0.1.2.1 hl.1.symm C0.1.2.2.2.1 (C0.1.2.2.2.2 _ w) (C0.1.2.2.2.2 _ w1) (C0.1.2.2.2.2 _ w2) (C0.1.2.2.2.2 _ w3) C0.2.2.2.1 hP2.to hI.to hS q0 q1 1 1 hq0 hq1 rfl rfl g1 g2 g3 g4 g5 (fun i _ y hy => (hob _ y hy).any C0 hP2 hS hci) (C0.kf hf) (C0.kl hlo) d (fun H1 locs1 hP1 hD1 hS1 => K H1 locs1 ls (C0.fro (hP2.set hq1 hP1)) (hI.put (hI a _ h1)) hS1 hl)
theorem g_mmax (C0 : gC_ Γ l V own cc nL ret rm) {index : Nat} {x y v : Int32} (w : Cond.methodLink own index Lib.Math.max.name ∈ lw_all) (w2 : Cond.static Lib.Math.max.name ∈ lw_all) (w3 : Cond.initialized "java/lang/Math" ∈ lw_all) (w4 : Cond.code Lib.Math.max.name Lib.Math.max.code 2 (some .int) ∈ lw_all) (hf : 1 ≤ rm.frames) (hlo : (st.map fun v => v.category).sum + 13 ≤ rm.locals) (hk : k ≤ rm.cells) (hn : n ≤ rm.slots) (d : decode cc pc = .ok (.invokestatic index, 3)) (e : (if x < y then y else x) = v) (K : G Γ h lv k n (pc + 3) (.int v :: st)) : G Γ h lv k n pc (.int y :: .int x :: st) := by
  subst e
  exact fun H locs ls hP hI hS hl => va_mmax C0.1.1 C0.1.2.1 hl.1.symm C0.1.2.2.2.1 (C0.1.2.2.2.2 _ w) (C0.1.2.2.2.2 _ w2) (C0.1.2.2.2.2 _ w3) (C0.1.2.2.2.2 _ w4) (C0.kf hf) (C0.kl hlo) (C0.kc hk) (C0.ks hn) d (K H locs ls hP hI hS hl)
theorem g_mmin (C0 : gC_ Γ l V own cc nL ret rm) {index : Nat} {x y v : Int32} (w : Cond.methodLink own index Lib.Math.min.name ∈ lw_all) (w2 : Cond.static Lib.Math.min.name ∈ lw_all) (w3 : Cond.initialized "java/lang/Math" ∈ lw_all) (w4 : Cond.code Lib.Math.min.name Lib.Math.min.code 2 (some .int) ∈ lw_all) (hf : 1 ≤ rm.frames) (hlo : (st.map fun v => v.category).sum + 13 ≤ rm.locals) (hk : k ≤ rm.cells) (hn : n ≤ rm.slots) (d : decode cc pc = .ok (.invokestatic index, 3)) (e : (if y < x then y else x) = v) (K : G Γ h lv k n (pc + 3) (.int v :: st)) : G Γ h lv k n pc (.int y :: .int x :: st) := by
  subst e
  exact fun H locs ls hP hI hS hl => va_mmin C0.1.1 C0.1.2.1 hl.1.symm C0.1.2.2.2.1 (C0.1.2.2.2.2 _ w) (C0.1.2.2.2.2 _ w2) (C0.1.2.2.2.2 _ w3) (C0.1.2.2.2.2 _ w4) (C0.kf hf) (C0.kl hlo) (C0.kc hk) (C0.ks hn) d (K H locs ls hP hI hS hl)
/-! bodies and ends -/
def gE_ (Γ : gG) (V : gV) (post : gR → gH → Prop) (mc ms : Nat) : Prop := gQ_ Γ = vx_MQ (gb_ Γ) (gQc V (gA_ Γ) post) (gXc V (gA_ Γ) post) (ga_ Γ) (gs_ Γ) mc ms (gA_ Γ)
theorem gE_.w {post : gR → gH → Prop} {mc ms : Nat} (E0 : gE_ Γ V post mc ms) {H : Heap} {locs : List Loc} {g : JFrame} (K : W Γ.1 Γ.2.1 Γ.2.2.1 Γ.2.2.2.1 Γ.2.2.2.2.1 Γ.2.2.2.2.2.1 Γ.2.2.2.2.2.2.1 Γ.2.2.2.2.2.2.2.1 Γ.2.2.2.2.2.2.2.2.1 Γ.2.2.2.2.2.2.2.2.2.1 H locs k n (vx_MQ (gb_ Γ) (gQc V (gA_ Γ) post) (gXc V (gA_ Γ) post) (ga_ Γ) (gs_ Γ) mc ms (gA_ Γ)) g) : gW_ Γ H locs k n g := by
  show W Γ.1 Γ.2.1 Γ.2.2.1 Γ.2.2.2.1 Γ.2.2.2.2.1 Γ.2.2.2.2.2.1 Γ.2.2.2.2.2.2.1 Γ.2.2.2.2.2.2.2.1 Γ.2.2.2.2.2.2.2.2.1 Γ.2.2.2.2.2.2.2.2.2.1 H locs k n (gQ_ Γ) g
  rw [show gQ_ Γ = _ from E0]
  exact K
theorem gE_.x {post : gR → gH → Prop} {mc ms : Nat} (E0 : gE_ Γ V post mc ms) {H : Heap} {locs : List Loc} {g : JFrame} {q : Addr} (K : vx_W Γ.1 Γ.2.1 Γ.2.2.1 Γ.2.2.2.1 Γ.2.2.2.2.1 Γ.2.2.2.2.2.1 Γ.2.2.2.2.2.2.1 Γ.2.2.2.2.2.2.2.1 Γ.2.2.2.2.2.2.2.2.1 Γ.2.2.2.2.2.2.2.2.2.1 H locs k n (vx_MQ (gb_ Γ) (gQc V (gA_ Γ) post) (gXc V (gA_ Γ) post) (ga_ Γ) (gs_ Γ) mc ms (gA_ Γ)) g q) : vx_W Γ.1 Γ.2.1 Γ.2.2.1 Γ.2.2.2.1 Γ.2.2.2.2.1 Γ.2.2.2.2.2.1 Γ.2.2.2.2.2.2.1 Γ.2.2.2.2.2.2.2.1 Γ.2.2.2.2.2.2.2.2.1 Γ.2.2.2.2.2.2.2.2.2.1 H locs k n Γ.2.2.2.2.2.2.2.2.2.2.2.2 g q := by
  show vx_W Γ.1 Γ.2.1 Γ.2.2.1 Γ.2.2.2.1 Γ.2.2.2.2.1 Γ.2.2.2.2.2.1 Γ.2.2.2.2.2.2.1 Γ.2.2.2.2.2.2.2.1 Γ.2.2.2.2.2.2.2.2.1 Γ.2.2.2.2.2.2.2.2.2.1 H locs k n (gQ_ Γ) g q
  rw [show gQ_ Γ = _ from E0]
  exact K
theorem gEnd {post : gR → gH → Prop} {H : Heap} {locs : List Loc} (C0 : gC_ Γ l V own cc nL ret rm) (hP : gP (gV_ Γ) h H) (hI : gIn (gA_ Γ) h) (hS : va_S (gA_ Γ) (gs_ Γ).heap H locs) {r : Option Value} (hp : post (.inl r) h) {a : Array Value} (t : State) (ht : t.heap = H) : gQc V (gA_ Γ) post a (gs_ Γ) (.returned r) t := ⟨⟨r, h, rfl, hp, by rw [ht]; exact C0.to hP, hI⟩, hS.F ht⟩
theorem g_iret (C0 : gC_ Γ l V own cc nL (some .int) rm) {post : gR → gH → Prop} {mc ms : Nat} (E0 : gE_ Γ V post mc ms) {v : Int32} (d : decode cc pc = .ok (.ireturn, 1)) (hk : k ≤ mc) (hn : n ≤ ms) (hp : post (.inl (some (.int v))) h) : G Γ h lv k n pc [.int v] := by
  intro H locs ls hP hI hS hl
  exact E0.w (vx_ret (W.widen hk hn (W.iret (hlocks := C0.2.1) C0.1.1 C0.1.2.1 C0.2.2.1 (fun t ht hW => gEnd C0 hP hI hS hp t ht) hS.2.2 d)))
theorem g_zret (C0 : gC_ Γ l V own cc nL (some .boolean) rm) {post : gR → gH → Prop} {mc ms : Nat} (E0 : gE_ Γ V post mc ms) {v : Int32} (d : decode cc pc = .ok (.ireturn, 1)) (hv : narrow .boolean (.int v) = .int v) (hk : k ≤ mc) (hn : n ≤ ms) (hp : post (.inl (some (.int v))) h) : G Γ h lv k n pc [.int v] := by
  intro H locs ls hP hI hS hl
  exact E0.w (vx_ret (W.widen hk hn (W.zret (hlocks := C0.2.1) C0.1.1 C0.1.2.1 C0.2.2.1 hv (fun t ht hW => gEnd C0 hP hI hS hp t ht) hS.2.2 d)))
theorem g_lret (C0 : gC_ Γ l V own cc nL (some .long) rm) {post : gR → gH → Prop} {mc ms : Nat} (E0 : gE_ Γ V post mc ms) {v : Int64} (d : decode cc pc = .ok (.lreturn, 1)) (hk : k ≤ mc) (hn : n ≤ ms) (hp : post (.inl (some (.long v))) h) : G Γ h lv k n pc [.long v] := by
  intro H locs ls hP hI hS hl
  exact E0.w (vx_ret (W.widen hk hn (W.lret (hlocks := C0.2.1) C0.1.1 C0.1.2.1 C0.2.2.1 (fun t ht hW => gEnd C0 hP hI hS hp t ht) hS.2.2 d)))
theorem g_dret (C0 : gC_ Γ l V own cc nL (some .double) rm) {post : gR → gH → Prop} {mc ms : Nat} (E0 : gE_ Γ V post mc ms) {v : UInt64} (d : decode cc pc = .ok (.dreturn, 1)) (hk : k ≤ mc) (hn : n ≤ ms) (hp : post (.inl (some (.double v))) h) : G Γ h lv k n pc [.double v] := by
  intro H locs ls hP hI hS hl
  exact E0.w (vx_ret (W.widen hk hn (W.dret (hlocks := C0.2.1) C0.1.1 C0.1.2.1 C0.2.2.1 (fun t ht hW => gEnd C0 hP hI hS hp t ht) hS.2.2 d)))
theorem g_vret (C0 : gC_ Γ l V own cc nL none rm) {post : gR → gH → Prop} {mc ms : Nat} (E0 : gE_ Γ V post mc ms) (d : decode cc pc = .ok (.return_, 1)) (hk : k ≤ mc) (hn : n ≤ ms) (hp : post (.inl none) h) : G Γ h lv k n pc [] := by
  intro H locs ls hP hI hS hl
  exact E0.w (vx_ret (W.widen hk hn (W.vret (hlocks := C0.2.1) C0.1.1 C0.1.2.1 C0.2.2.1 (fun t ht hW => gEnd C0 hP hI hS hp t ht) hS.2.2 d)))
theorem g_aret {rt : FieldType} (C0 : gC_ Γ l V own cc nL (some rt) rm) {post : gR → gH → Prop} {mc ms : Nat} (E0 : gE_ Γ V post mc ms) {v : Value} (d : decode cc pc = .ok (.areturn, 1)) (hrt : (∃ n, rt = .object n) ∨ ∃ t, rt = .array t) (hv : v = .null ∨ ∃ a, v = .ref a) (hk : k ≤ mc) (hn : n ≤ ms) (hp : post (.inl (some v)) h) : G Γ h lv k n pc [v] := by
  intro H locs ls hP hI hS hl
  exact E0.w (vx_ret (W.widen hk hn (W.aret (hlocks := C0.2.1) C0.1.1 C0.1.2.1 C0.2.2.1 hrt hv (fun t ht hW => gEnd C0 hP hI hS hp t ht) hS.2.2 d)))
theorem g_out (C0 : gC_ Γ l V own cc nL ret rm) {post : gR → gH → Prop} {mc ms : Nat} (E0 : gE_ Γ V post mc ms) (T0 : ∀ x ∈ (gc_ Γ).exceptionTable.toList, False) {E : String} (hk : k ≤ mc) (hn : n ≤ ms) (hp : post (.inr E) h) : GX Γ h lv k n pc E := by
  intro H locs ls rest q ce hP hI hS hl h1 h2 h3
  refine E0.x ?_
  exact vx_out (fun x hx => (T0 x hx).elim) C0.2.1 h1 h2 h3 (fun t ht hA => ⟨⟨h, hp, by rw [ht]; exact C0.to hP, hI⟩, hS.F ht⟩) hS.2.2 hk hn
end GHEAP
/-- as vx_ofW; the method plain by its full name -/
theorem vx_ofWF {l : Launch} {y : MethodName} {ws ws' : List Cond} {rm : Room} {Pc : Array Value → State → Prop} {Qc : Array Value → State → Outcome → State → Prop} {XC : String → State → State → Prop} {mc ms : Nat} {free : Addr → Prop} {cc : ByteArray} {maxL : Nat} {ret : Option FieldType}
    (hy : plainFor y = true) (hw : ws = Cond.code y cc maxL ret :: ws')
    (body : ∀ p e s m args below meth c s₁, BodyLoose p l y (headSpec ws rm) cc maxL ret e s m args below meth c s₁ → c.maxLocals = maxL → (∀ x ∈ c.exceptionTable.toList, False) → Pc args s →
      W p l e (headSpec ws rm).room s m args below meth c s.heap [] 0 0 (vx_MQ below Qc XC args s mc ms free) (entryFrame m args maxL)) : vx_Met l y ws rm Pc Qc XC mc ms free := by
  refine MetFree.of_bodySF (code := cc) (maxLocals := maxL) (ret := ret) hy ?_ ?_
  · intro args s m h hn
    obtain ⟨meth, c, h1, h2, h3, h4, h5, h6, -, -⟩ := Cond.code_spec hn (atoms_spec (ws := ws) h _ (by rw [hw]; exact List.mem_cons_self))
    exact ⟨meth, c, h1, h2, h3, h4, h5, h6⟩
  · intro p e s m args below meth c s₁ B hml hP _
    have hh0 : s₁.heap = s.heap := by rw [B.state]; rfl
    have ht : ∀ x ∈ c.exceptionTable.toList, False := by
      obtain ⟨meth9, c9, h1, h2, -, -, -, -, h7, -⟩ := Cond.code_spec B.named (atoms_spec (ws := ws) B.pre _ (by rw [hw]; exact List.mem_cons_self))
      cases Option.some.inj (h1.symm.trans B.method)
      cases Option.some.inj (h2.symm.trans (Stand.of_body B).code)
      intro x hx
      rw [Array.isEmpty_iff.mp h7] at hx
      cases hx
    obtain ⟨t, a1, o, b1, b2, b3⟩ := body p e s m args below meth c s₁ B hml ht hP s₁ hh0 (Stand.of_body B)
    exact ⟨t, o, a1, b1, b2, b3⟩
/-- a contract out of its walk -/
theorem MX.of {l : Launch} {V : gV} {y : MethodName} {code : ByteArray} {nL : Nat} {ret : Option FieldType} {fr lo mc ms : Nat} {As : List Value} {h : gH} {post : gR → gH → Prop} {lv0 : List (Nat × Value)} (hy : plainFor y = true) (hlv : lv_args 0 As = lv0) (hlen : (lg_sl As).length ≤ nL)
    (K : ∀ Γ : gG, gC_ Γ l V y.cls code nL ret ({ frames := fr, cells := mc, slots := ms, locals := lo } : Room) → gE_ Γ V post mc ms → (∀ x ∈ (gc_ Γ).exceptionTable.toList, False) → (gh_ Γ).name = y.name → G Γ h lv0 0 0 0 []) : MX l V y code nL ret fr lo mc ms As h post := by
  intro hl sz
  refine vx_ofWF (cc := code) (maxL := nL) (ret := ret) hy rfl ?_
  intro p e s m args below meth c s₁ B hml ht hv
  obtain ⟨rfl, hsz, hP, hK, hSt⟩ := hv
  subst hsz
  have hts := atoms_spec (ws := ws_ y code nL ret) B.pre
  have hts : ∀ w ∈ lw_all, w.before As.toArray s = true := fun w hw => hts w (List.mem_cons_of_mem _ hw)
  have hown : s.vm.findClass y.cls = some m.cls := findClass_of_methodNamed B.named
  have hlv2 := lv_entry As (n := nL) hlen
  rw [lg_entry_eq]
  generalize (lg_sl As ++ List.replicate (nL - (lg_sl As).length) Slot.unset).toArray = ls at hlv2 ⊢
  rw [hlv] at hlv2
  let Γ : gG := (p, l, e, ({ frames := fr, cells := mc, slots := ms, locals := lo } : Room), s, m, As.toArray, below, meth, c, V, gA h s.heap.size, vx_MQ below (gQc V (gA h s.heap.size) post) (gXc V (gA h s.heap.size) post) As.toArray s mc ms (gA h s.heap.size))
  have hG := K Γ ⟨⟨B.exec, B.bytes, hml, hown, hts⟩, B.notSynchronized, B.returns, hK, hSt, fun q hq => Or.inr hq, hl, rfl, rfl, rfl⟩ rfl ht (name_of_methodNamed B.named B.method).1
  exact hG s.heap [] ls hP (fun a x hx => Or.inl ⟨x, hx⟩) va_S.rf (by rw [← hml] at hlv2; exact hlv2)
/-! answers -/
/-- the answer is an int (a reference, a long ..), or an exception -/
abbrev pI (f : Int32 → gH → Prop) (x : String → gH → Prop) : gR → gH → Prop := fun r h' => match r with
  | .inl (some (.int v)) => f v h'
  | .inr E => x E h'
  | _ => False
abbrev pJ (f : Int64 → gH → Prop) (x : String → gH → Prop) : gR → gH → Prop := fun r h' => match r with
  | .inl (some (.long v)) => f v h'
  | .inr E => x E h'
  | _ => False
abbrev pD (f : UInt64 → gH → Prop) (x : String → gH → Prop) : gR → gH → Prop := fun r h' => match r with
  | .inl (some (.double v)) => f v h'
  | .inr E => x E h'
  | _ => False
abbrev pV (f : gH → Prop) (x : String → gH → Prop) : gR → gH → Prop := fun r h' => match r with
  | .inl none => f h'
  | .inr E => x E h'
  | _ => False
abbrev pR (f : Nat → gH → Prop) (x : String → gH → Prop) : gR → gH → Prop := fun r h' => match r with
  | .inl (some (.ref v)) => f v h'
  | .inr E => x E h'
  | _ => False
/-- no exception -/
abbrev xN : String → gH → Prop := fun _ _ => False
section GANS
variable {Γ : gG} {h : gH} {lv : List (Nat × Value)} {k n pc : Nat} {rest : List Value} {x : String → gH → Prop}
theorem kI {f : Int32 → gH → Prop} (K : ∀ (v : Int32) (h' : gH), f v h' → G Γ h' lv k n pc (.int v :: rest)) : ∀ (r : Option Value) (h' : gH), pI f x (.inl r) h' → G Γ h' lv k n pc (r.toList ++ rest) := by
  intro r h' hp
  rcases r with _ | v
  · exact hp.elim
  · cases v <;> first | exact K _ _ hp | exact hp.elim
theorem kJ {f : Int64 → gH → Prop} (K : ∀ (v : Int64) (h' : gH), f v h' → G Γ h' lv k n pc (.long v :: rest)) : ∀ (r : Option Value) (h' : gH), pJ f x (.inl r) h' → G Γ h' lv k n pc (r.toList ++ rest) := by
  intro r h' hp
  rcases r with _ | v
  · exact hp.elim
  · cases v <;> first | exact K _ _ hp | exact hp.elim
theorem kD {f : UInt64 → gH → Prop} (K : ∀ (v : UInt64) (h' : gH), f v h' → G Γ h' lv k n pc (.double v :: rest)) : ∀ (r : Option Value) (h' : gH), pD f x (.inl r) h' → G Γ h' lv k n pc (r.toList ++ rest) := by
  intro r h' hp
  rcases r with _ | v
  · exact hp.elim
  · cases v <;> first | exact K _ _ hp | exact hp.elim
theorem kR {f : Nat → gH → Prop} (K : ∀ (v : Nat) (h' : gH), f v h' → G Γ h' lv k n pc (.ref v :: rest)) : ∀ (r : Option Value) (h' : gH), pR f x (.inl r) h' → G Γ h' lv k n pc (r.toList ++ rest) := by
  intro r h' hp
  rcases r with _ | v
  · exact hp.elim
  · cases v <;> first | exact K _ _ hp | exact hp.elim
theorem kV {f : gH → Prop} (K : ∀ (h' : gH), f h' → G Γ h' lv k n pc rest) : ∀ (r : Option Value) (h' : gH), pV f x (.inl r) h' → G Γ h' lv k n pc (r.toList ++ rest) := by
  intro r h' hp
  rcases r with _ | v
  · exact K _ hp
  · exact hp.elim
theorem kIe {v0 : Int32} {h0 : gH} (K : G Γ h0 lv k n pc (.int v0 :: rest)) : ∀ (r : Option Value) (h' : gH), pI (fun v h' => v = v0 ∧ h' = h0) x (.inl r) h' → G Γ h' lv k n pc (r.toList ++ rest) := kI (fun v h' e => by rw [e.1, e.2]; exact K)
theorem kJe {v0 : Int64} {h0 : gH} (K : G Γ h0 lv k n pc (.long v0 :: rest)) : ∀ (r : Option Value) (h' : gH), pJ (fun v h' => v = v0 ∧ h' = h0) x (.inl r) h' → G Γ h' lv k n pc (r.toList ++ rest) := kJ (fun v h' e => by rw [e.1, e.2]; exact K)
theorem kDe {v0 : UInt64} {h0 : gH} (K : G Γ h0 lv k n pc (.double v0 :: rest)) : ∀ (r : Option Value) (h' : gH), pD (fun v h' => v = v0 ∧ h' = h0) x (.inl r) h' → G Γ h' lv k n pc (r.toList ++ rest) := kD (fun v h' e => by rw [e.1, e.2]; exact K)
theorem kRe {v0 : Nat} {h0 : gH} (K : G Γ h0 lv k n pc (.ref v0 :: rest)) : ∀ (r : Option Value) (h' : gH), pR (fun v h' => v = v0 ∧ h' = h0) x (.inl r) h' → G Γ h' lv k n pc (r.toList ++ rest) := kR (fun v h' e => by rw [e.1, e.2]; exact K)
theorem kVe {h0 : gH} (K : G Γ h0 lv k n pc rest) : ∀ (r : Option Value) (h' : gH), pV (fun h' => h' = h0) x (.inl r) h' → G Γ h' lv k n pc (r.toList ++ rest) := kV (fun h' e => by rw [e]; exact K)
/-- behind a call that throws nothing -/
theorem kN {P : gR → gH → Prop} (hP : ∀ (E : String) (h' : gH), ¬ P (.inr E) h') : ∀ (E : String) (h' : gH), P (.inr E) h' → GX Γ h' lv k n pc E := fun E h' hp => (hP E h' hp).elim
end GANS
