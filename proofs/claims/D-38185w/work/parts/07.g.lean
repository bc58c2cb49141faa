/-! THE G LAYER: one judgement over an abstract heap (address to tag and cell); every row of it is one of the kit's rows, over all cells at once. -/
abbrev gC : Type := Nat × va_E
abbrev gH : Type := Nat → Option gC
/-- the numbers of the objects' kinds, of their fields, of the arrays' kinds; the addresses of what nobody writes -/
abbrev gV : Type := (Nat → ClassId) × (Nat → Nat → Nat) × (Nat → ClassId) × (Nat → Nat)
def gCls : List vw_C := [(RX1, TX1, 18), (RJ2, TJ2, 3), (RX3, TX3, 6), (RX5, TX5, 6), (RX7, TX7, 10), (RX10, TX10, 7), (RX12, TX12, 7), (RX15, TX15, 7), (RX16, TX16, 3), (RX14, TX14, 16), (RX2, TX2, 18), (RX4, TX4, 6), (RX6, TX6, 7), (RX9, TX9, 10), (RX11, TX11, 7), (RX13, TX13, 7), (RX19, TX19, 8), (RX18, TX18, 4), (RX17, TX17, 13), (RJ17, TJ17, 4)]
abbrev gD (V : gV) : va_G := (V.1, V.2.1)
abbrev gK (V : gV) (k : Nat) : ClassId := V.2.2.1 k
abbrev gX (V : gV) (k : Nat) : Nat := V.2.2.2 k
def gTys (V : gV) : List (ClassId × FieldType) := [(gK V 0, .int), (gK V 1, .object "java/lang/Object"), (gK V 2, .boolean), (gK V 3, .long)]
def gU (h : gH) (a : Nat) (x : gC) : gH := fun q => if q = a then some x else h q
theorem gU_s {h : gH} {a : Nat} {x : gC} : gU h a x a = some x := if_pos rfl
theorem gU_n {h : gH} {a b : Nat} {x : gC} (n : b ≠ a) : gU h a x b = h b := if_neg n
def gP (V : gV) (h : gH) (H : Heap) : Prop := ∀ (a : Nat) (x : gC), h a = some x → va_at (gD V) gCls (a, x.2) H
def gIn (A : Nat → Prop) (h : gH) : Prop := ∀ (a : Nat) (x : gC), h a = some x → A a
def gA (h : gH) (sz : Nat) : Nat → Prop := fun q => (∃ x, h q = some x) ∨ sz ≤ q
/-- all cells, as a list -/
def gW (h : gH) (n : Nat) : va_W := (List.range n).filterMap (fun a => (h a).map (fun x => (a, x.2)))
theorem gW_get {h : gH} {n a : Nat} {x : gC} (ha : h a = some x) (hn : a < n) : ∃ k : Nat, (gW h n)[k]? = some (a, x.2) :=
  List.getElem?_of_mem (List.mem_filterMap.mpr ⟨a, List.mem_range.mpr hn, by rw [ha]; rfl⟩)
theorem gW_of {h : gH} {n k : Nat} {q : Nat × va_E} (hk : (gW h n)[k]? = some q) : ∃ x, h q.1 = some x ∧ q.2 = x.2 ∧ q.1 < n := by
  obtain ⟨a, ha, e⟩ := List.mem_filterMap.mp (List.mem_of_getElem? hk)
  cases hx : h a with
  | none => rw [hx] at e; cases e
  | some x => rw [hx] at e; cases e; exact ⟨x, hx, rfl, List.mem_range.mp ha⟩
theorem gW_pw (h : gH) (n : Nat) : List.Pairwise (fun p q : Nat × va_E => p.1 < q.1) (gW h n) := by
  unfold gW
  rw [List.pairwise_filterMap]
  refine List.Pairwise.imp ?_ (List.pairwise_lt_range (n := n))
  intro a b hab p hp q hq
  cases hx : h a with
  | none => rw [hx] at hp; cases hp
  | some x =>
    cases hy : h b with
    | none => rw [hy] at hq; cases hq
    | some y =>
      rw [hx] at hp; rw [hy] at hq
      cases hp; cases hq
      exact hab
theorem gW_inj {h : gH} {n : Nat} (i j : Nat) (p q : Nat × va_E) (hp : (gW h n)[i]? = some p) (hq : (gW h n)[j]? = some q) (e : p.1 = q.1) : i = j := by
  obtain ⟨hi, ei⟩ := List.getElem?_eq_some_iff.mp hp
  obtain ⟨hj, ej⟩ := List.getElem?_eq_some_iff.mp hq
  have key := List.pairwise_iff_getElem.mp (gW_pw h n)
  rcases Nat.lt_trichotomy i j with l | l | l
  · have := key i j hi hj l
    rw [ei, ej, e] at this
    exact absurd this (Nat.lt_irrefl _)
  · exact l
  · have := key j i hj hi l
    rw [ei, ej, e] at this
    exact absurd this (Nat.lt_irrefl _)
theorem gP.lt {V : gV} {h : gH} {H : Heap} (hP : gP V h H) {a : Nat} {x : gC} (ha : h a = some x) : a < H.size := (hP a x ha).lt
theorem gP.to {V : gV} {h : gH} {H : Heap} (hP : gP V h H) : va_P (gD V) gCls (gW h H.size) H := by
  intro k q hk
  obtain ⟨x, h1, h2, -⟩ := gW_of hk
  have := hP q.1 x h1
  rw [← h2] at this
  exact this
theorem gIn.to {A : Nat → Prop} {h : gH} {n : Nat} (hI : gIn A h) : va_D A (gW h n) := ⟨gW_inj, fun k q hk => by obtain ⟨x, h1, -⟩ := gW_of hk; exact hI _ _ h1⟩
theorem gP.get {V : gV} {h : gH} {H : Heap} (hP : gP V h H) {a : Nat} {x : gC} (ha : h a = some x) : ∃ k : Nat, (gW h H.size)[k]? = some (a, x.2) := gW_get ha (hP.lt ha)
theorem gIn.put {A : Nat → Prop} {h : gH} {a : Nat} {x : gC} (hI : gIn A h) (ha : A a) : gIn A (gU h a x) := by
  intro q y hq
  unfold gU at hq
  by_cases e : q = a
  · rw [e]; exact ha
  · rw [if_neg e] at hq; exact hI q y hq
theorem gP.set {V : gV} {h : gH} {H H1 : Heap} {k a t : Nat} {e0 e : va_E} (hP : gP V h H) (hk : (gW h H.size)[k]? = some (a, e0)) (hP1 : va_P (gD V) gCls ((gW h H.size).set k (a, e)) H1) : gP V (gU h a (t, e)) H1 := by
  intro q y hq
  unfold gU at hq
  by_cases hqa : q = a
  · rw [if_pos hqa] at hq; cases hq; subst hqa
    exact hP1 k (q, e) (by rw [List.getElem?_set_self (List.getElem?_eq_some_iff.mp hk).1])
  · rw [if_neg hqa] at hq
    obtain ⟨k', hk'⟩ := hP.get hq
    have hne : k ≠ k' := fun e => by subst e; rw [hk] at hk'; cases hk'; exact hqa rfl
    exact hP1 k' (q, y.2) (by rw [List.getElem?_set_ne hne]; exact hk')
theorem gP.push {V : gV} {h : gH} {H H1 : Heap} {q t : Nat} {e : va_E} (hP : gP V h H) (hP1 : va_P (gD V) gCls (gW h H.size ++ [(q, e)]) H1) : gP V (gU h q (t, e)) H1 := by
  intro b y hb
  unfold gU at hb
  by_cases hbq : b = q
  · rw [if_pos hbq] at hb; cases hb; subst hbq
    exact hP1 (gW h H.size).length (b, e) (by simp)
  · rw [if_neg hbq] at hb
    obtain ⟨k', hk'⟩ := hP.get hb
    exact hP1 k' (b, y.2) (by rw [List.getElem?_append_left (List.getElem?_eq_some_iff.mp hk').1]; exact hk')
theorem gP.fresh {V : gV} {A : Nat → Prop} {h : gH} {H : Heap} {q : Nat} {e : va_E} (hP : gP V h H) (hD1 : va_D A (gW h H.size ++ [(q, e)])) : h q = none := by
  cases hq : h q with
  | none => rfl
  | some x =>
    obtain ⟨k, hk⟩ := hP.get hq
    have hl := (List.getElem?_eq_some_iff.mp hk).1
    have := hD1.1 k (gW h H.size).length (q, x.2) (q, e) (by rw [List.getElem?_append_left hl]; exact hk) (by simp) rfl
    omega
theorem gP.fresh' {A : Nat → Prop} {W : va_W} {q : Nat} {e : va_E} (hD1 : va_D A (W ++ [(q, e)])) : A q := hD1.2 W.length (q, e) (by simp)
/-! what nobody writes -/
def gFok (C : String) (x y : MethodName) : Prop := (Cond.declares x ∈ lw_tbl ∧ Cond.interfaceMethod x.cls x.cls x.name x.desc ∈ lw_tbl ∧ Cond.publicMethod y ∈ lw_tbl ∧ Cond.unhidden C x.name x.desc ∈ lw_tbl ∧ Cond.castable C x.cls ∈ lw_tbl) ∧ (x.cls ≠ "java/lang/invoke/MethodHandle" ∧ x.cls ≠ "java/lang/invoke/VarHandle")
def gAsks (j : Nat) : Int32 := if j = 0 then 60 else if j = 1 then 90 else 120
def gLives (j : Nat) : Int32 := if j = 0 then 90 else if j = 1 then 70 else 110
def gLess (j : Nat) : Int32 := if j = 0 then 1 else if j = 1 then 3 else 6
def gCF : List (String × String × String × List Int32) := [("java/lang/Enum", "ordinal", "I", [0, 1, 2]), ("Bloomclock$Cultivar", "light", "I", [60, 90, 120]), ("Bloomclock$Cultivar", "life", "I", [90, 70, 110])]
def gSF : List (String × String × String × List Int32) := [("java/lang/Enum", "ordinal", "I", [0, 1, 2, 3])]
def gCN : List String := ["EARLY", "MIDDLE", "LATE"]
def gSN : List String := ["HELD", "ROW", "SOLD", "CLEARED"]
/-- what is said of tables alone -/
def gTb (V : gV) (U : State) : Prop :=
  (∀ C T, Cond.castable C T ∈ lw_tbl → va_Nw (.castable C T) U) ∧ (∀ a i b n d x, Cond.fieldLinkNest a i b n d x ∈ lw_tbl → va_Nw (.fieldLinkNest a i b n d x) U) ∧ (∀ a i y x, Cond.methodLinkNest a i y x ∈ lw_tbl → va_Nw (.methodLinkNest a i y x) U) ∧
  va_AO "java/lang/Object" U ∧ (∀ C x y, gFok C x y → va_Fw C x y U) ∧ va_Mi "[Ljava/lang/Object;" (gX V 11) U ∧ va_Dc U ∧
  (va_Nc "java/lang/IllegalArgumentException" "java/lang/IndexOutOfBoundsException" U ∧ va_Nc "java/lang/IllegalStateException" "java/lang/IndexOutOfBoundsException" U ∧ va_Nc "java/lang/IllegalStateException" "java/lang/IllegalArgumentException" U)
/-- what is said of cells -/
def gHp (V : gV) (A : Nat → Prop) (U : State) (H : Heap) : Prop :=
  (va_Z "java/util/ArrayList" "DEFAULTCAPACITY_EMPTY_ELEMENTDATA" "[Ljava/lang/Object;" (.ref (gX V 0)) A U H ∧ va_T (.object "java/lang/Object") (gX V 0) 0 (fun _ => .null) A U H) ∧
  va_En "Bloomclock$Cultivar" "LBloomclock$Cultivar;" gCN gCF (fun i => gX V (1 + i)) A U H ∧ va_En "Bloomclock$State" "LBloomclock$State;" gSN gSF (fun i => gX V (4 + i)) A U H ∧
  (va_Z "BloomclockModel" "ASKS" "[I" (.ref (gX V 8)) A U H ∧ va_T .int (gX V 8) 3 (fun j => .int (gAsks j)) A U H) ∧ (va_Z "BloomclockModel" "LIVES" "[I" (.ref (gX V 9)) A U H ∧ va_T .int (gX V 9) 3 (fun j => .int (gLives j)) A U H) ∧ (va_Z "BloomclockModel" "LESS" "[I" (.ref (gX V 10)) A U H ∧ va_T .int (gX V 10) 3 (fun j => .int (gLess j)) A U H) ∧
  (va_Z "java/lang/Integer$IntegerCache" "high" "I" (.int 127) A U H ∧ va_Z "java/lang/Integer$IntegerCache" "cache" "[Ljava/lang/Integer;" (.ref (gX V 12)) A U H ∧ va_T (.object "java/lang/Integer") (gX V 12) 256 (fun k => .ref (gX V (13 + k))) A U H ∧ vb_C (fun k => gX V (13 + k)) A U H) ∧
  vx_Zq Bundle.tN "UNASSIGNED_STACK" Bundle.steD A U H ∧ vx_Zq Bundle.tN "SUPPRESSED_SENTINEL" Bundle.listD A U H
def gSt (V : gV) (A : Nat → Prop) (U : State) (H : Heap) : Prop := gTb V U ∧ gHp V A U H
theorem va_Nc.moved' {C T : String} {u U : State} (hvm : u.vm.Alike U.vm) (h : va_Nc C T u) : va_Nc C T U := by
  obtain ⟨c, t, h1, h2, h3⟩ := h
  exact ⟨c, t, by rw [hvm.findClass]; exact h1, by rw [hvm.findClass]; exact h2, by rw [hvm.assignable]; exact h3⟩
theorem gTb.warm {V : gV} {s U : State} (hW : s.WarmedH U.vm) (h : gTb V s) : gTb V U := by
  obtain ⟨h1, h2, h3, h4, h5, h6, h7, n1, n2, n3⟩ := h
  have hv := hW.alike
  exact ⟨fun C T w => va_Nw.warmC hW (h1 C T w), fun a i b n d x w => va_Nw.warmF hW (h2 a i b n d x w), fun a i y x w => va_Nw.warmM hW (h3 a i y x w), va_AO.moved hv h4, fun C x y w => va_Fw.moved w.2 hv (h5 C x y w), va_Mi.moved hv h6, va_Dc.moved hv h7, va_Nc.moved' hv n1, va_Nc.moved' hv n2, va_Nc.moved' hv n3⟩
theorem gHp.go {V : gV} {A B : Nat → Prop} {s U : State} {H0 H : Heap} (hv : s.vm.Alike U.vm) (hq : ∀ a : Nat, a < H0.size → ¬ A a → H[a]? = H0[a]?) (hAB : ∀ q, B q → A q) (h : gHp V A s H0) : gHp V B U H := by
  obtain ⟨⟨a1, a2⟩, b, c, ⟨d1, d2⟩, ⟨e1, e2⟩, ⟨f1, f2⟩, ⟨g1, g2, g3, g4⟩, i, j⟩ := h
  exact ⟨⟨va_Z.moved hv ((a1.kept hq).narrow hAB), va_T.moved hv ((a2.kept hq).narrow hAB)⟩, va_En.moved hv ((b.kept hq).narrow hAB), va_En.moved hv ((c.kept hq).narrow hAB),
    ⟨va_Z.moved hv ((d1.kept hq).narrow hAB), va_T.moved hv ((d2.kept hq).narrow hAB)⟩, ⟨va_Z.moved hv ((e1.kept hq).narrow hAB), va_T.moved hv ((e2.kept hq).narrow hAB)⟩, ⟨va_Z.moved hv ((f1.kept hq).narrow hAB), va_T.moved hv ((f2.kept hq).narrow hAB)⟩,
    ⟨va_Z.moved hv ((g1.kept hq).narrow hAB), va_Z.moved hv ((g2.kept hq).narrow hAB), va_T.moved hv ((g3.kept hq).narrow hAB), vb_C.moved hv ((g4.kept hq).narrow hAB)⟩,
    vx_Zq.moved hv ((i.kept hq).narrow hAB), vx_Zq.moved hv ((j.kept hq).narrow hAB)⟩
theorem gSt.go {V : gV} {A B : Nat → Prop} {s U : State} {H0 H : Heap} (hW : s.WarmedH U.vm) (hq : ∀ a : Nat, a < H0.size → ¬ A a → H[a]? = H0[a]?) (hAB : ∀ q, B q → A q) (h : gSt V A s H0) : gSt V B U H := ⟨h.1.warm hW, h.2.go hW.alike hq hAB⟩
theorem gSt.same {V : gV} {A : Nat → Prop} {u U : State} {H : Heap} (e : u.vm = U.vm) (h : gSt V A u H) : gSt V A U H := by
  have hW : u.WarmedH U.vm := by rw [← e]; exact State.WarmedH.refl u
  exact h.go hW (fun _ _ _ => rfl) (fun _ h => h)
/-- the frozen surroundings of a walk -/
abbrev gG : Type := Program × Launch × Env × Room × State × MethodId × Array Value × List Frame × Method × Code × gV × (Nat → Prop) × (State → Prop)
abbrev gW_ (Γ : gG) (H : Heap) (locs : List Loc) (k n : Nat) (g : JFrame) : Prop := W Γ.1 Γ.2.1 Γ.2.2.1 Γ.2.2.2.1 Γ.2.2.2.2.1 Γ.2.2.2.2.2.1 Γ.2.2.2.2.2.2.1 Γ.2.2.2.2.2.2.2.1 Γ.2.2.2.2.2.2.2.2.1 Γ.2.2.2.2.2.2.2.2.2.1 H locs k n Γ.2.2.2.2.2.2.2.2.2.2.2.2 g
abbrev gl_ (Γ : gG) : Launch := Γ.2.1
abbrev gR_ (Γ : gG) : Room := Γ.2.2.2.1
abbrev gs_ (Γ : gG) : State := Γ.2.2.2.2.1
abbrev gm_ (Γ : gG) : MethodId := Γ.2.2.2.2.2.1
abbrev ga_ (Γ : gG) : Array Value := Γ.2.2.2.2.2.2.1
abbrev gb_ (Γ : gG) : List Frame := Γ.2.2.2.2.2.2.2.1
abbrev gh_ (Γ : gG) : Method := Γ.2.2.2.2.2.2.2.2.1
abbrev gc_ (Γ : gG) : Code := Γ.2.2.2.2.2.2.2.2.2.1
abbrev gV_ (Γ : gG) : gV := Γ.2.2.2.2.2.2.2.2.2.2.1
abbrev gA_ (Γ : gG) : Nat → Prop := Γ.2.2.2.2.2.2.2.2.2.2.2.1
abbrev gQ_ (Γ : gG) : State → Prop := Γ.2.2.2.2.2.2.2.2.2.2.2.2
/-- the machine, at pc with these locals and this stack, over this abstract heap, comes to its end -/
def G (Γ : gG) (h : gH) (lv : List (Nat × Value)) (k n pc : Nat) (st : List Value) : Prop :=
  ∀ (H : Heap) (locs : List Loc) (ls : Array Slot), gP (gV_ Γ) h H → gIn (gA_ Γ) h → va_S (gA_ Γ) (gs_ Γ).heap H locs → lv_has ls (gc_ Γ).maxLocals lv → gW_ Γ H locs k n (F0 (gm_ Γ) pc ls st)
/-- the same, with an exception of kind E thrown at pc -/
def GX (Γ : gG) (h : gH) (lv : List (Nat × Value)) (k n pc : Nat) (E : String) : Prop :=
  ∀ (H : Heap) (locs : List Loc) (ls : Array Slot) (rest : List Value) (q : Addr) (ce : Cell), gP (gV_ Γ) h H → gIn (gA_ Γ) h → va_S (gA_ Γ) (gs_ Γ).heap H locs → lv_has ls (gc_ Γ).maxLocals lv → H[q]? = some ce → ce.vm = .none → (gs_ Γ).vm.findClass E = some ce.cls →
    vx_W Γ.1 Γ.2.1 Γ.2.2.1 Γ.2.2.2.1 Γ.2.2.2.2.1 Γ.2.2.2.2.2.1 Γ.2.2.2.2.2.2.1 Γ.2.2.2.2.2.2.2.1 Γ.2.2.2.2.2.2.2.2.1 Γ.2.2.2.2.2.2.2.2.2.1 H locs k n Γ.2.2.2.2.2.2.2.2.2.2.2.2 (F0 (gm_ Γ) pc ls rest) q
/-- what holds of them: launch, V, owner, code, locals, answer's type, room -/
def gC_ (Γ : gG) (l : Launch) (V : gV) (own : String) (cc : ByteArray) (nL : Nat) (ret : Option FieldType) (rm : Room) : Prop :=
  (Γ.1.tables.exec = Jvm.exec ∧ (gc_ Γ).code = cc ∧ (gc_ Γ).maxLocals = nL ∧ (gs_ Γ).vm.findClass own = some (gm_ Γ).cls ∧ (∀ w ∈ lw_all, w.before (ga_ Γ) (gs_ Γ) = true)) ∧ (gh_ Γ).locks = false ∧ (gh_ Γ).sig.returnType = ret ∧ va_K (gD V) gCls (gTys V) (gs_ Γ) ∧ gSt V (gA_ Γ) (gs_ Γ) (gs_ Γ).heap ∧ (∀ q, (gs_ Γ).heap.size ≤ q → gA_ Γ q) ∧ l.stackTraces = false ∧ gl_ Γ = l ∧ gV_ Γ = V ∧ gR_ Γ = rm
abbrev gR : Type := Option Value ⊕ String
/-- a contract's end -/
def gQc (V : gV) (A : Nat → Prop) (post : gR → gH → Prop) : Array Value → State → Outcome → State → Prop := fun _ st o t => (∃ (r : Option Value) (h' : gH), o = .returned r ∧ post (.inl r) h' ∧ gP V h' t.heap ∧ gIn A h') ∧ va_F A st t
def gXc (V : gV) (A : Nat → Prop) (post : gR → gH → Prop) : String → State → State → Prop := fun E st t => (∃ h' : gH, post (.inr E) h' ∧ gP V h' t.heap ∧ gIn A h') ∧ va_F A st t
def gPre (V : gV) (h : gH) (sz : Nat) (U : State) : Prop := U.heap.size = sz ∧ gP V h U.heap ∧ va_K (gD V) gCls (gTys V) U ∧ gSt V (gA h sz) U U.heap
/-- THE CONTRACT: from the arguments As and the abstract heap h, the answer (or the exception) and the new heap are as post says; at most mc new cells of ms slots, fr frames and lo words below its own -/
def MX (l : Launch) (V : gV) (y : MethodName) (code : ByteArray) (nL : Nat) (ret : Option FieldType) (fr lo mc ms : Nat) (As : List Value) (h : gH) (post : gR → gH → Prop) : Prop :=
  l.stackTraces = false → ∀ sz : Nat, vx_Met l y (ws_ y code nL ret) ({ frames := fr, cells := mc, slots := ms, locals := lo } : Room) (va_Pc As (gPre V h sz)) (gQc V (gA h sz) post) (gXc V (gA h sz) post) mc ms (gA h sz)
