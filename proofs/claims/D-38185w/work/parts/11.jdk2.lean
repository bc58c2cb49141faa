/-! LISTS THAT GROW AND SHRINK; ITERATORS -/
theorem gLs.ne {V : gV} {h : gH} {a ta ea te cap : Nat} {md : Int32} {gs : List Nat} (hL : gLs V h a ta ea te cap md gs) (hc : cap ≠ 0) : a ≠ ea := by
  intro e
  have h1 := hL.elt hc
  have h2 := hL.2.1 hc
  rw [← e, h1] at h2
  cases h2
theorem gLs.md {V : gV} {h : gH} {a ta ea te cap : Nat} {md md2 : Int32} {gs : List Nat} (hL : gLs V h a ta ea te cap md gs) : gLs V (gU h a (ta, .inr (1, [.int md2, .ref (if cap = 0 then gX V 0 else ea), .int (nI gs.length)]))) a ta ea te cap md2 gs :=
  ⟨gU_s, fun hc => by rw [gU_n (fun e => hL.ne hc e.symm)]; exact hL.2.1 hc, hL.2.2⟩
theorem gLs.fr {V : gV} {h h' : gH} {a ta ea te cap : Nat} {md : Int32} {gs : List Nat} {K : Nat → Prop} (hL : gLs V h a ta ea te cap md gs) (hF : gFr K h h') (ha : ¬ K a) (he : cap ≠ 0 → ¬ K ea) : gLs V h' a ta ea te cap md gs :=
  ⟨hF _ _ hL.1 ha, fun hc => hF _ _ (hL.2.1 hc) (he hc), hL.2.2⟩
/-- all that stand in the list are things -/
def gObs (V : gV) (h : gH) (gs : List Nat) : Prop := ∀ y ∈ gs, gOb V h y
theorem gObs.at {V : gV} {h : gH} {gs : List Nat} (ho : gObs V h gs) (j y : Nat) (e : gs[j]? = some y) : gOb V h y := ho y (List.mem_of_getElem? e)
theorem gOb.putL {V : gV} {h : gH} {a ta : Nat} {fs fs' : List Value} {c c' : Nat} {y : Nat} (hy : gOb V h y) (ha : h a = some (ta, .inr (c, fs))) (e : c = c') : gOb V (gU h a (ta, .inr (c', fs'))) y := hy.put ha (fun ci gs w => by cases w; subst e; exact ⟨fs', rfl⟩)
theorem gOb.putA {V : gV} {h : gH} {a t : Nat} {x z : ClassId × vp_A} {y : Nat} (hy : gOb V h y) (ha : h a = some (t, .inl x)) : gOb V (gU h a (t, .inl z)) y := hy.put ha (fun ci gs w => by cases w)
theorem gPush_fun {gs : List Nat} {x : Nat} (hl : gs.length < 2 ^ 31) : va_up (fun j => gs[j]?) (nI gs.length).toNatClampNeg (some x) = fun j => (gs ++ [x])[j]? := by
  rw [nI_clamp hl]
  funext j
  unfold va_up
  by_cases e : j = gs.length
  · rw [if_pos e, e]; simp
  · rw [if_neg e]
    by_cases l : j < gs.length
    · rw [List.getElem?_append_left l]
    · rw [List.getElem?_eq_none (l := gs ++ [x]) (by rw [List.length_append, List.length_singleton]; omega)]
      exact List.getElem?_eq_none (by omega)
section JDK2
theorem m_growS (l : Launch) (V : gV) {h : gH} {a ta ea te cap : Nat} {md : Int32} {gs : List Nat} (hL : gLs V h a ta ea te cap md gs) (hfull : gs.length = cap) (hob : gObs V h gs) (hc : cap ≠ 0) (hm : cap < 1000000) : MX l V yJ2_grow_2 cJ2_grow_2 4 (some (.array (.object "java/lang/Object"))) 3 74 1 (cap + max 1 (cap / 2)) [.ref a, .int (nI (cap + 1))] h (pR (fun q h' => h q = none ∧ h' = gU (gU h q (te, .inl (gK V 1, (cap + max 1 (cap / 2)), .inr (.inr (.inr (.inr (fun j => if j < cap then gs[j]? else none))))))) a (ta, .inr (1, [.int md, .ref q, .int (nI gs.length)]))) xN) := by
  refine MX.of (lv0 := [(0, .ref a), (1, .int (nI (cap + 1)))]) (by decide +kernel) rfl (Nat.le_of_ble_eq_true rfl) ?_
  intro Γ C0 E0 T0 N0
  have C0 : gC_ Γ l V "java/util/ArrayList" cJ2_grow_2 4 (some (.array (.object "java/lang/Object"))) ({ frames := 3, cells := 1, slots := (cap + max 1 (cap / 2)), locals := 74 } : Room) := C0
  refine g_aload_n C0 dJ2_grow_2_0 rfl ?_
  refine g_get C0 KJ2 (hL.elt hc) 1 rfl q120 rfl (by decide) dJ2_grow_2_1 ?_
  refine g_alen (j := 1) C0 (hL.2.1 hc) rfl rfl dJ2_grow_2_4 ?_
  refine g_istore_n (lv' := [(2, .int (Int32.ofNat cap)), (0, .ref a), (1, .int (nI (cap + 1)))]) C0 dJ2_grow_2_5 (by decide) rfl ?_
  refine g_iload_n C0 dJ2_grow_2_6 rfl ?_
  refine g_i (y := nI cap) (show Int32.ofNat cap = nI cap from rfl) ?_
  refine g_if_gt (tgt := 20) C0 dJ2_grow_2_7 (by decide) (fun _ => ?_) (fun c_1 => absurd (by rw [← nI_0]; exact nI_lt (by omega) (by omega)) c_1)
  refine g_iload_n C0 dJ2_grow_2_20 rfl ?_
  refine g_iload_n C0 dJ2_grow_2_21 rfl ?_
  refine g_iload_n C0 dJ2_grow_2_22 rfl ?_
  refine g_isub C0 dJ2_grow_2_23 ?_
  refine g_i (y := nI 1) ((pk_sub (by omega)).trans (by rw [Nat.add_sub_cancel_left])) ?_
  refine g_iload_n C0 dJ2_grow_2_24 rfl ?_
  refine g_iconst (v := 1) C0 dJ2_grow_2_25 (by decide) ?_
  refine g_ishr C0 dJ2_grow_2_26 ?_
  refine g_i (y := nI (cap / 2)) ((pk_shrN (by omega) _ 1 (by decide +kernel)).trans rfl) ?_
  refine g_callS (As := [.int (Int32.ofNat cap), .int (nI 1), .int (nI (cap / 2))]) (rest := []) (nA := 3) C0 (m_newLength l V hc hm) (lw_S q547 q548 q66 q549) (by decide +kernel) rfl ⟨Nat.le_of_ble_eq_true rfl, Nat.le_of_ble_eq_true rfl, (Nat.le_of_ble_eq_true rfl), (show 0 + 0 ≤ (cap + max 1 (cap / 2)) from by omega)⟩ rfl (Nat.le_of_ble_eq_true rfl) dJ2_grow_2_27 (kIe ?_) (kN fun _ _ h => h)
  refine g_istore_n (lv' := [(3, .int (nI (cap + max 1 (cap / 2)))), (2, .int (Int32.ofNat cap)), (0, .ref a), (1, .int (nI (cap + 1)))]) C0 dJ2_grow_2_30 (by decide) rfl ?_
  refine g_aload_n C0 dJ2_grow_2_31 rfl ?_
  refine g_aload_n C0 dJ2_grow_2_32 rfl ?_
  refine g_get C0 KJ2 (hL.elt hc) 1 rfl q120 rfl (by decide) dJ2_grow_2_33 ?_
  refine g_iload_n C0 dJ2_grow_2_36 rfl ?_
  refine g_callS (As := [.ref ea, .int (nI (cap + max 1 (cap / 2)))]) (rest := [.ref a]) (nA := 2) C0 (m_copyOf l V (te := te) (hL.2.1 hc) (by omega) (by omega) hob.at) (lw_S q555 q556 q68 q557) (by decide +kernel) rfl ⟨Nat.le_of_ble_eq_true rfl, Nat.le_of_ble_eq_true rfl, (Nat.le_of_ble_eq_true rfl), (show 0 + (cap + max 1 (cap / 2)) ≤ (cap + max 1 (cap / 2)) from by omega)⟩ rfl (Nat.le_of_ble_eq_true rfl) dJ2_grow_2_37 (kR fun r_1 h_1 hp => ?_) (kN fun _ _ h => h)
  obtain ⟨hf_1, rfl⟩ := hp
  have hL1 := gU_f (hL.elt hc) hf_1 (z := (te, .inl (gK V 1, cap + max 1 (cap / 2), .inr (.inr (.inr (.inr (fun j => if j < cap then gs[j]? else none)))))))
  refine g_dup_x1 C0 dJ2_grow_2_40 rfl rfl ?_
  refine g_put (fs' := [.int md, .ref r_1, .int (nI gs.length)]) C0 KJ2 hL1 1 rfl q120 rfl (by decide) rfl rfl rfl (Nat.le_of_ble_eq_true rfl) dJ2_grow_2_41 ?_
  exact g_aret C0 E0 dJ2_grow_2_44 (Or.inr ⟨_, rfl⟩) (Or.inr ⟨_, rfl⟩) (Nat.le_of_ble_eq_true rfl) (show 0 + (cap + max 1 (cap / 2)) ≤ (cap + max 1 (cap / 2)) from by omega) ⟨hf_1, rfl⟩

theorem m_grow0 (l : Launch) (V : gV) {h : gH} {a ta te : Nat} {md : Int32} (hL0 : h a = some (ta, .inr (1, [.int md, .ref (gX V 0), .int (nI 0)]))) : MX l V yJ2_grow_2 cJ2_grow_2 4 (some (.array (.object "java/lang/Object"))) 3 74 1 10 [.ref a, .int (nI 1)] h (pR (fun q h' => h q = none ∧ h' = gU (gU h q (te, .inl (gK V 1, 10, .inr (.inr (.inr (.inr (fun _ => none))))))) a (ta, .inr (1, [.int md, .ref q, .int (nI 0)]))) xN) := by
  refine MX.of (lv0 := [(0, .ref a), (1, .int (nI 1))]) (by decide +kernel) rfl (Nat.le_of_ble_eq_true rfl) ?_
  intro Γ C0 E0 T0 N0
  have C0 : gC_ Γ l V "java/util/ArrayList" cJ2_grow_2 4 (some (.array (.object "java/lang/Object"))) ({ frames := 3, cells := 1, slots := 10, locals := 74 } : Room) := C0
  have hL : h a = some (ta, .inr (1, [.int md, .ref (gX V 0), .int (nI 0)])) ∧ True := ⟨hL0, trivial⟩
  refine g_aload_n C0 dJ2_grow_2_0 rfl ?_
  refine g_get C0 KJ2 hL.1 1 rfl q120 rfl (by decide) dJ2_grow_2_1 ?_
  refine g_tlen (v := 0) C0 C0.2.2.2.2.1.2.1.2 rfl dJ2_grow_2_4 ?_
  refine g_istore_n (lv' := [(2, .int 0), (0, .ref a), (1, .int (nI 1))]) C0 dJ2_grow_2_5 (by decide) rfl ?_
  refine g_iload_n C0 dJ2_grow_2_6 rfl ?_
  refine g_if_gt (tgt := 20) C0 dJ2_grow_2_7 (by decide) (fun c_1 => absurd c_1 (by decide)) (fun _ => ?_)
  refine g_aload_n C0 dJ2_grow_2_10 rfl ?_
  refine g_get C0 KJ2 hL.1 1 rfl q120 rfl (by decide) dJ2_grow_2_11 ?_
  refine g_gets (C := "java/util/ArrayList") (nm := "DEFAULTCAPACITY_EMPTY_ELEMENTDATA") (ds := "[Ljava/lang/Object;") (v := .ref (gX V 0)) C0 C0.2.2.2.2.1.2.1.1 q118 rfl dJ2_grow_2_14 ?_
  refine g_rcmp_eq (tgt := 45) C0 dJ2_grow_2_17 (by decide) (fun _ => ?_) (fun c_2 => absurd rfl c_2)
  refine g_aload_n C0 dJ2_grow_2_45 rfl ?_
  refine g_bipush (v := 10) C0 dJ2_grow_2_46 (by decide) ?_
  refine g_iload_n C0 dJ2_grow_2_48 rfl ?_
  refine g_mmax (v := jmax 10 (nI 1)) C0 q599 qMX1 q67 qMX2 (Nat.le_of_ble_eq_true rfl) (Nat.le_of_ble_eq_true rfl) (Nat.le_of_ble_eq_true rfl) (Nat.le_of_ble_eq_true rfl) dJ2_grow_2_49 rfl ?_
  refine g_i (y := 10) (show jmax 10 (nI 1) = 10 from by decide +kernel) ?_
  refine g_newq (m := 10) C0 te q600 (by decide) rfl (by decide) (Nat.le_of_ble_eq_true rfl) (Nat.le_of_ble_eq_true rfl) dJ2_grow_2_52 (fun a_1 hf_1 => ?_)
  have hL1 := gU_f hL.1 hf_1 (z := (te, .inl (gK V 1, 10, .inr (.inr (.inr (.inr (fun _ => none)))))))
  refine g_dup_x1 C0 dJ2_grow_2_55 rfl rfl ?_
  refine g_put (fs' := [.int md, .ref a_1, .int (nI 0)]) C0 KJ2 hL1 1 rfl q120 rfl (by decide) rfl rfl rfl (Nat.le_of_ble_eq_true rfl) dJ2_grow_2_56 ?_
  exact g_aret C0 E0 dJ2_grow_2_59 (Or.inr ⟨_, rfl⟩) (Or.inr ⟨_, rfl⟩) (Nat.le_of_ble_eq_true rfl) (Nat.le_of_ble_eq_true rfl) ⟨hf_1, by rfl⟩

theorem MX.up {l : Launch} {V : gV} {y : MethodName} {code : ByteArray} {nL : Nat} {ret : Option FieldType} {fr lo mc ms : Nat} {As : List Value} {h : gH} {post post' : gR → gH → Prop} (M : MX l V y code nL ret fr lo mc ms As h post) (hp : ∀ r h', post r h' → post' r h') : MX l V y code nL ret fr lo mc ms As h post' := by
  intro hl sz p e ha hc hk s m args below hf happ hP hK
  obtain ⟨k, o, h1, h2, h3, h4⟩ := M hl sz p e ha hc hk s m args below hf happ hP hK
  refine ⟨k, o, h1, h2, h3, ?_⟩
  rcases h4 with ⟨⟨⟨r, h', e1, e2, e3⟩, e4⟩, e5⟩ | ⟨q, e1, E, ce, L, ⟨⟨h', e2, e3⟩, e4⟩, e5⟩
  · exact Or.inl ⟨⟨⟨r, h', e1, hp _ _ e2, e3⟩, e4⟩, e5⟩
  · exact Or.inr ⟨q, e1, E, ce, L, ⟨⟨h', hp _ _ e2, e3⟩, e4⟩, e5⟩

theorem gTrim {gs : List Nat} {cap : Nat} (h : gs.length = cap) : (fun j => if j < cap then gs[j]? else none) = fun j => gs[j]? := by
  funext j
  by_cases e : j < cap
  · rw [if_pos e]
  · rw [if_neg e, List.getElem?_eq_none (by omega)]
theorem m_grow (l : Launch) (V : gV) {h : gH} {a ta ea te cap : Nat} {md : Int32} {gs : List Nat} (hL : gLs V h a ta ea te cap md gs) (hfull : gs.length = cap) (hob : gObs V h gs) : MX l V yJ2_grow_2 cJ2_grow_2 4 (some (.array (.object "java/lang/Object"))) 3 74 1 (gNc cap) [.ref a, .int (nI (cap + 1))] h (pR (fun q h' => h q = none ∧ h' = gU (gU h q (te, .inl (gK V 1, gNc cap, .inr (.inr (.inr (.inr (fun j => gs[j]?))))))) a (ta, .inr (1, [.int md, .ref q, .int (nI gs.length)]))) xN) := by
  by_cases hc : cap = 0
  · subst hc
    have e : gs = [] := List.length_eq_zero_iff.mp hfull
    subst e
    exact (m_grow0 l V (te := te) hL.1)
  · have M := m_growS l V hL hfull hob hc hL.2.2.2
    rw [gTrim hfull, ← gNc_s hc] at M
    exact M
theorem m_grow1 (l : Launch) (V : gV) {h : gH} {a ta ea te cap : Nat} {md : Int32} {gs : List Nat} (hL : gLs V h a ta ea te cap md gs) (hfull : gs.length = cap) (hob : gObs V h gs) : MX l V yJ2_grow cJ2_grow 1 (some (.array (.object "java/lang/Object"))) 4 97 1 (gNc cap) [.ref a] h (pR (fun q h' => h q = none ∧ h' = gU (gU h q (te, .inl (gK V 1, gNc cap, .inr (.inr (.inr (.inr (fun j => gs[j]?))))))) a (ta, .inr (1, [.int md, .ref q, .int (nI gs.length)]))) xN) := by
  refine MX.of (lv0 := [(0, .ref a)]) (by decide +kernel) rfl (Nat.le_of_ble_eq_true rfl) ?_
  intro Γ C0 E0 T0 N0
  have C0 : gC_ Γ l V "java/util/ArrayList" cJ2_grow 1 (some (.array (.object "java/lang/Object"))) ({ frames := 4, cells := 1, slots := (gNc cap), locals := 97 } : Room) := C0
  refine g_aload_n C0 dJ2_grow_0 rfl ?_
  refine g_aload_n C0 dJ2_grow_1 rfl ?_
  refine g_get C0 KJ2 hL.1 2 rfl q123 rfl (by decide) dJ2_grow_2 ?_
  refine g_iconst (v := 1) C0 dJ2_grow_5 (by decide) ?_
  refine g_iadd C0 dJ2_grow_6 ?_
  refine g_i (y := nI (cap + 1)) ((nI_1 _).trans (by rw [hfull])) ?_
  refine g_callV (C := "java/util/ArrayList") (As := [.int (nI (cap + 1))]) (rest := []) (nA := 1) C0 (m_grow l V hL hfull hob) (lw_V q543 q545 qs17 q59 q546) hL.1 rfl rfl (by decide +kernel) rfl ⟨Nat.le_of_ble_eq_true rfl, Nat.le_of_ble_eq_true rfl, (Nat.le_of_ble_eq_true rfl), (show 0 + (gNc cap) ≤ (gNc cap) from by omega)⟩ rfl (Nat.le_of_ble_eq_true rfl) dJ2_grow_7 (kR fun r_1 h_1 hp => ?_) (kN fun _ _ h => h)
  exact g_aret C0 E0 dJ2_grow_10 (Or.inr ⟨_, rfl⟩) (Or.inr ⟨_, rfl⟩) (Nat.le_of_ble_eq_true rfl) (show 0 + (gNc cap) ≤ (gNc cap) from by omega) hp

theorem m_addA (l : Launch) (V : gV) {h : gH} {a ta ea te cap : Nat} {md : Int32} {gs : List Nat} (hL : gLs V h a ta ea te cap md gs) (hc : cap ≠ 0) (hr : gs.length < cap) (hob : gObs V h gs) {x : Nat} (hx : gOb V h x) : MX l V yJ2_add_2 cJ2_add_2 4 none 5 117 1 (gNc cap) [.ref a, .ref x, .ref ea, .int (nI gs.length)] h (pV (fun h' => ∃ ea' cap' : Nat, gLs V h' a ta ea' te cap' md (gs ++ [x]) ∧ gFr (fun q => q = a ∨ (cap ≠ 0 ∧ q = ea)) h h' ∧ cap ≤ cap' ∧ cap' ≤ gNc cap) xN) := by
  refine MX.of (lv0 := [(0, .ref a), (1, .ref x), (2, .ref ea), (3, .int (nI gs.length))]) (by decide +kernel) rfl (Nat.le_of_ble_eq_true rfl) ?_
  intro Γ C0 E0 T0 N0
  have C0 : gC_ Γ l V "java/util/ArrayList" cJ2_add_2 4 none ({ frames := 5, cells := 1, slots := (gNc cap), locals := 117 } : Room) := C0
  have hm := hL.2.2.2
  refine g_iload_n C0 dJ2_add_2_0 rfl ?_
  refine g_aload_n C0 dJ2_add_2_1 rfl ?_
  refine g_alen (j := 1) C0 (hL.2.1 hc) rfl rfl dJ2_add_2_2 ?_
  refine g_icmp_ne (tgt := 11) C0 dJ2_add_2_3 (by decide) (fun _ => ?_) (fun c_1 => absurd c_1 (show ¬ nI gs.length = Int32.ofNat cap from fun q => (Nat.ne_of_lt hr) ((nI_eq (by omega) (by omega)).mp q)))
  refine g_aload_n C0 dJ2_add_2_11 rfl ?_
  refine g_iload_n C0 dJ2_add_2_12 rfl ?_
  refine g_aload_n C0 dJ2_add_2_13 rfl ?_
  refine g_aast (f' := fun j => (gs ++ [x])[j]?) C0 qIO (hL.2.1 hc) hx (vp_in_nI hr (by omega)) dJ2_add_2_14 (gPush_fun (by omega)) ?_
  have hL1 : gU h ea (te, .inl (gK V 1, cap, .inr (.inr (.inr (.inr (fun j => (gs ++ [x])[j]?)))))) a = _ := (gU_n (hL.ne hc)).trans (hL.elt hc)
  refine g_aload_n C0 dJ2_add_2_15 rfl ?_
  refine g_iload_n C0 dJ2_add_2_16 rfl ?_
  refine g_iconst (v := 1) C0 dJ2_add_2_17 (by decide) ?_
  refine g_iadd C0 dJ2_add_2_18 ?_
  refine g_i (y := nI (gs.length + 1)) ((nI_1 _)) ?_
  refine g_put (fs' := [.int md, .ref ea, .int (nI (gs.length + 1))]) C0 KJ2 hL1 2 rfl q123 rfl (by decide) rfl rfl rfl (Nat.le_of_ble_eq_true rfl) dJ2_add_2_19 ?_
  exact g_vret C0 E0 dJ2_add_2_22 (Nat.le_of_ble_eq_true rfl) (show 0 ≤ (gNc cap) from by omega) ⟨ea, cap, ⟨by rw [gU_s, if_neg hc, List.length_append]; rfl, fun _ => by rw [gU_n (fun e => hL.ne hc e.symm), gU_s], by rw [List.length_append]; exact hr, hL.2.2.2⟩, (gFr.put (Or.inr ⟨hc, rfl⟩)).tr (gFr.put (Or.inl rfl)), Nat.le_refl _, Nat.le_of_lt (gNc_gt cap)⟩

theorem gFr.fresh {K : Nat → Prop} {h h1 : gH} {q : Nat} {z : gC} (hq : h q = none) (a : gFr K h h1) : gFr K h (gU h1 q z) := fun b x e n => by
  rw [gU_n (fun w => by subst w; rw [hq] at e; cases e)]
  exact a b x e n
theorem g_alenE {Γ : gG} {l : Launch} {V : gV} {own : String} {cc : ByteArray} {nL : Nat} {ret : Option FieldType} {rm : Room} {h : gH} {lv : List (Nat × Value)} {k n pc : Nat} {st : List Value} (C0 : gC_ Γ l V own cc nL ret rm) {a ta ea te cap : Nat} {md : Int32} {gs : List Nat} (hL : gLs V h a ta ea te cap md gs) (d : decode cc pc = .ok (.arraylength, 1)) (K : G Γ h lv k n (pc + 1) (.int (nI cap) :: st)) : G Γ h lv k n pc (.ref (if cap = 0 then gX V 0 else ea) :: st) := by
  by_cases hc : cap = 0
  · rw [if_pos hc]
    exact g_tlen C0 C0.2.2.2.2.1.2.1.2 (v := nI cap) (by rw [hc]; rfl) d K
  · rw [if_neg hc]
    exact g_alen (j := 1) C0 (hL.2.1 hc) rfl rfl d K
theorem m_addB (l : Launch) (V : gV) {h : gH} {a ta ea te cap : Nat} {md : Int32} {gs : List Nat} (hL : gLs V h a ta ea te cap md gs) (hfull : gs.length = cap) (hm2 : gNc cap < 1000000) (hob : gObs V h gs) {x : Nat} (hx : gOb V h x) : MX l V yJ2_add_2 cJ2_add_2 4 none 5 117 1 (gNc cap) [.ref a, .ref x, .ref (if cap = 0 then gX V 0 else ea), .int (nI gs.length)] h (pV (fun h' => ∃ ea' cap' : Nat, gLs V h' a ta ea' te cap' md (gs ++ [x]) ∧ gFr (fun q => q = a ∨ (cap ≠ 0 ∧ q = ea)) h h' ∧ cap ≤ cap' ∧ cap' ≤ gNc cap) xN) := by
  refine MX.of (lv0 := [(0, .ref a), (1, .ref x), (2, .ref (if cap = 0 then gX V 0 else ea)), (3, .int (nI gs.length))]) (by decide +kernel) rfl (Nat.le_of_ble_eq_true rfl) ?_
  intro Γ C0 E0 T0 N0
  have C0 : gC_ Γ l V "java/util/ArrayList" cJ2_add_2 4 none ({ frames := 5, cells := 1, slots := (gNc cap), locals := 117 } : Room) := C0
  have hm := hL.2.2.2
  have hgt := gNc_gt cap
  refine g_iload_n C0 dJ2_add_2_0 rfl ?_
  refine g_aload_n C0 dJ2_add_2_1 rfl ?_
  refine g_alenE C0 hL dJ2_add_2_2 ?_
  refine g_icmp_ne (tgt := 11) C0 dJ2_add_2_3 (by decide) (fun c_1 => absurd c_1 (by rw [hfull]; exact fun q => q rfl)) (fun _ => ?_)
  refine g_aload_n C0 dJ2_add_2_6 rfl ?_
  refine g_callV (C := "java/util/ArrayList") (As := []) (rest := []) (nA := 0) C0 (m_grow1 l V hL hfull hob) (lw_V q539 q541 qs16 q59 q542) hL.1 rfl rfl (by decide +kernel) rfl ⟨Nat.le_of_ble_eq_true rfl, Nat.le_of_ble_eq_true rfl, (Nat.le_of_ble_eq_true rfl), (show 0 + (gNc cap) ≤ (gNc cap) from by omega)⟩ rfl (Nat.le_of_ble_eq_true rfl) dJ2_add_2_7 (kR fun r_1 h_1 hp => ?_) (kN fun _ _ h => h)
  obtain ⟨hf_1, rfl⟩ := hp
  have hL1 := gU_n (h := gU h r_1 (te, .inl (gK V 1, gNc cap, .inr (.inr (.inr (.inr (fun j => gs[j]?))))))) (x := (ta, .inr (1, [.int md, .ref r_1, .int (nI gs.length)]))) (fun e : r_1 = a => by rw [e, hL.1] at hf_1; cases hf_1)
  rw [gU_s] at hL1
  have hx1 := (hx.new hf_1 (z := (te, .inl (gK V 1, gNc cap, .inr (.inr (.inr (.inr (fun j => gs[j]?)))))))).putL (gU_f hL.1 hf_1) rfl (fs' := [.int md, .ref r_1, .int (nI gs.length)])
  refine g_astore_n (lv' := [(2, .ref r_1), (0, .ref a), (1, .ref x), (3, .int (nI gs.length))]) C0 dJ2_add_2_10 (by decide) rfl ?_
  refine g_aload_n C0 dJ2_add_2_11 rfl ?_
  refine g_iload_n C0 dJ2_add_2_12 rfl ?_
  refine g_aload_n C0 dJ2_add_2_13 rfl ?_
  refine g_aast (f' := fun j => (gs ++ [x])[j]?) C0 qIO hL1 hx1 (vp_in_nI (by omega) (by omega)) dJ2_add_2_14 (gPush_fun (by omega)) ?_
  have hne : a ≠ r_1 := fun e => by rw [← e, hL.1] at hf_1; cases hf_1
  have hL2 := gU_n (h := (gU (gU h r_1 (te, .inl (gK V 1, gNc cap, .inr (.inr (.inr (.inr (fun j => gs[j]?))))))) a (ta, .inr (1, [.int md, .ref r_1, .int (nI gs.length)])))) (x := (te, .inl (gK V 1, gNc cap, .inr (.inr (.inr (.inr (fun j => (gs ++ [x])[j]?))))))) hne
  rw [gU_s] at hL2
  refine g_aload_n C0 dJ2_add_2_15 rfl ?_
  refine g_iload_n C0 dJ2_add_2_16 rfl ?_
  refine g_iconst (v := 1) C0 dJ2_add_2_17 (by decide) ?_
  refine g_iadd C0 dJ2_add_2_18 ?_
  refine g_i (y := nI (gs.length + 1)) ((nI_1 _)) ?_
  refine g_put (fs' := [.int md, .ref r_1, .int (nI (gs.length + 1))]) C0 KJ2 hL2 2 rfl q123 rfl (by decide) rfl rfl rfl (Nat.le_of_ble_eq_true rfl) dJ2_add_2_19 ?_
  exact g_vret C0 E0 dJ2_add_2_22 (Nat.le_of_ble_eq_true rfl) (show 0 + (gNc cap) ≤ (gNc cap) from by omega) ⟨r_1, gNc cap, ⟨by rw [gU_s, if_neg (by omega), List.length_append]; rfl, fun _ => by rw [gU_n hne.symm, gU_s], by rw [List.length_append]; show gs.length + 1 ≤ _; omega, by omega⟩, (gFr.fresh hf_1 ((gFr.new hf_1).tr (gFr.put (Or.inl rfl)))).tr (gFr.put (Or.inl rfl)), by omega, Nat.le_refl _⟩

theorem m_add2 (l : Launch) (V : gV) {h : gH} {a ta ea te cap : Nat} {md : Int32} {gs : List Nat} (hL : gLs V h a ta ea te cap md gs) (hm2 : gNc cap < 1000000) (hob : gObs V h gs) {x : Nat} (hx : gOb V h x) : MX l V yJ2_add_2 cJ2_add_2 4 none 5 117 1 (gNc cap) [.ref a, .ref x, .ref (if cap = 0 then gX V 0 else ea), .int (nI gs.length)] h (pV (fun h' => ∃ ea' cap' : Nat, gLs V h' a ta ea' te cap' md (gs ++ [x]) ∧ gFr (fun q => q = a ∨ (cap ≠ 0 ∧ q = ea)) h h' ∧ cap ≤ cap' ∧ cap' ≤ gNc cap) xN) := by
  by_cases hfull : gs.length = cap
  · exact m_addB l V hL hfull hm2 hob hx
  · have hr : gs.length < cap := by have := hL.2.2.1; omega
    have hc : cap ≠ 0 := by omega
    rw [if_neg hc]
    exact m_addA l V hL hc hr hob hx
theorem m_add (l : Launch) (V : gV) {h : gH} {a ta ea te cap : Nat} {md : Int32} {gs : List Nat} (hL : gLs V h a ta ea te cap md gs) (hm2 : gNc cap < 1000000) (hob : gObs V h gs) {x : Nat} (hx : gOb V h x) : MX l V yJ2_add cJ2_add 2 (some .boolean) 6 140 1 (gNc cap) [.ref a, .ref x] h (pI (fun v h' => v = 1 ∧ ∃ ea' cap' : Nat, gLs V h' a ta ea' te cap' (md + 1) (gs ++ [x]) ∧ gFr (fun q => q = a ∨ (cap ≠ 0 ∧ q = ea)) h h' ∧ cap ≤ cap' ∧ cap' ≤ gNc cap) xN) := by
  refine MX.of (lv0 := [(0, .ref a), (1, .ref x)]) (by decide +kernel) rfl (Nat.le_of_ble_eq_true rfl) ?_
  intro Γ C0 E0 T0 N0
  have C0 : gC_ Γ l V "java/util/ArrayList" cJ2_add 2 (some .boolean) ({ frames := 6, cells := 1, slots := (gNc cap), locals := 140 } : Room) := C0
  refine g_aload_n C0 dJ2_add_0 rfl ?_
  refine g_dup C0 dJ2_add_1 rfl ?_
  refine g_getS C0 KJ2 hL.1 0 rfl q127 q126 (by decide) dJ2_add_2 ?_
  refine g_iconst (v := 1) C0 dJ2_add_5 (by decide) ?_
  refine g_iadd C0 dJ2_add_6 ?_
  refine g_putS (fs' := [.int (md + 1), .ref (if cap = 0 then gX V 0 else ea), .int (nI gs.length)]) C0 KJ2 hL.1 0 rfl q127 q126 (by decide) rfl rfl rfl (Nat.le_of_ble_eq_true rfl) dJ2_add_7 ?_
  have hL1 := hL.md (md2 := md + 1)
  have hx1 : gOb V _ x := hx.putL hL.1 rfl (fs' := [.int (md + 1), .ref (if cap = 0 then gX V 0 else ea), .int (nI gs.length)])
  have ho1 : gObs V _ gs := fun y hy => (hob y hy).putL hL.1 rfl (fs' := [.int (md + 1), .ref (if cap = 0 then gX V 0 else ea), .int (nI gs.length)])
  refine g_aload_n C0 dJ2_add_10 rfl ?_
  refine g_aload_n C0 dJ2_add_11 rfl ?_
  refine g_aload_n C0 dJ2_add_12 rfl ?_
  refine g_get C0 KJ2 hL1.1 1 rfl q120 rfl (by decide) dJ2_add_13 ?_
  refine g_aload_n C0 dJ2_add_16 rfl ?_
  refine g_get C0 KJ2 hL1.1 2 rfl q123 rfl (by decide) dJ2_add_17 ?_
  refine g_callV (C := "java/util/ArrayList") (As := [.ref x, .ref (if cap = 0 then gX V 0 else ea), .int (nI gs.length)]) (rest := []) (nA := 3) C0 (m_add2 l V hL1 hm2 ho1 hx1) (lw_V q535 q537 qs15 q59 q538) hL1.1 rfl rfl (by decide +kernel) rfl ⟨Nat.le_of_ble_eq_true rfl, Nat.le_of_ble_eq_true rfl, (Nat.le_of_ble_eq_true rfl), (show 0 + (gNc cap) ≤ (gNc cap) from by omega)⟩ rfl (Nat.le_of_ble_eq_true rfl) dJ2_add_20 (kV fun h_1 hp => ?_) (kN fun _ _ h => h)
  refine g_iconst (v := 1) C0 dJ2_add_23 (by decide) ?_
  exact g_zret C0 E0 dJ2_add_24 rfl (Nat.le_of_ble_eq_true rfl) (show 0 + (gNc cap) ≤ (gNc cap) from by omega) (by obtain ⟨e1, c1, h1, h2, h3⟩ := hp; exact ⟨rfl, e1, c1, h1, (gFr.put (Or.inl rfl)).tr h2, h3⟩)

end JDK2
