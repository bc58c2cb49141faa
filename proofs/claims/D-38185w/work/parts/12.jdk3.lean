/-! REMOVAL, SEARCH, ITERATORS, BOXES -/
theorem gRem_last {gs : List Nat} {m : Nat} (hm : gs.length = m + 1) : va_up (fun j => gs[j]?) m none = fun j => (gs.eraseIdx m)[j]? := by
  funext j
  unfold va_up
  rw [List.getElem?_eraseIdx]
  by_cases e : j = m
  · rw [if_pos e, if_neg (by omega), List.getElem?_eq_none (by omega)]
  · rw [if_neg e]
    by_cases l : j < m
    · rw [if_pos l]
    · rw [if_neg l]
      exact (List.getElem?_eq_none (by omega)).trans (List.getElem?_eq_none (by omega)).symm
theorem gRem_mid {gs : List Nat} {m i : Nat} (hm : gs.length = m + 1) (hi : i ≤ m) : va_up (va_cpy (fun j => gs[j]?) (fun j => gs[j]?) (i + 1) i (m - i)) m none = fun j => (gs.eraseIdx i)[j]? := by
  funext j
  unfold va_up va_cpy
  rw [List.getElem?_eraseIdx]
  by_cases e : j = m
  · rw [if_pos e, if_neg (by omega), List.getElem?_eq_none (by omega)]
  · rw [if_neg e]
    by_cases l : j < i
    · rw [if_pos l, if_neg (by omega)]
    · rw [if_neg l]
      by_cases l2 : j < m
      · rw [if_pos (by omega), show i + 1 + (j - i) = j + 1 by omega]
      · rw [if_neg (by omega)]
        exact (List.getElem?_eq_none (by omega)).trans (List.getElem?_eq_none (by omega)).symm
theorem gLs.putE {V : gV} {h : gH} {a ta ea te cap : Nat} {md : Int32} {gs gs' : List Nat} (hL : gLs V h a ta ea te cap md gs) (hc : cap ≠ 0) (hl : gs'.length ≤ cap) {n : Nat} (hn : gs'.length = n) {z1 : va_E} {md2 : Int32} : gLs V (gU (gU (gU h a (ta, z1)) a (ta, .inr (1, [.int md2, .ref ea, .int (nI n)]))) ea (te, .inl (gK V 1, cap, .inr (.inr (.inr (.inr (fun j => gs'[j]?))))))) a ta ea te cap md2 gs' :=
  ⟨by rw [gU_n (hL.ne hc), gU_s, if_neg hc, hn], fun _ => gU_s, hl, hL.2.2.2⟩
section JDK3
theorem m_fastRemove (l : Launch) (V : gV) {h : gH} {a ta ea te cap : Nat} {md : Int32} {gs : List Nat} (hL : gLs V h a ta ea te cap md gs) (hob : gObs V h gs) {m i : Nat} (hm : gs.length = m + 1) (hi : i ≤ m) : MX l V yJ2_fastRemove cJ2_fastRemove 4 none 1 30 0 0 [.ref a, .ref ea, .int (nI i)] h (pV (fun h' => gLs V h' a ta ea te cap (md + 1) (gs.eraseIdx i) ∧ gFr (fun q => q = a ∨ (cap ≠ 0 ∧ q = ea)) h h') xN) := by
  refine MX.of (lv0 := [(0, .ref a), (1, .ref ea), (2, .int (nI i))]) (by decide +kernel) rfl (Nat.le_of_ble_eq_true rfl) ?_
  intro Γ C0 E0 T0 N0
  have C0 : gC_ Γ l V "java/util/ArrayList" cJ2_fastRemove 4 none ({ frames := 1, cells := 0, slots := 0, locals := 30 } : Room) := C0
  have hcap := hL.2.2.1
  have hmm := hL.2.2.2
  have hc : cap ≠ 0 := by omega
  have hlen : (gs.eraseIdx i).length = m := by rw [List.length_eraseIdx, if_pos (by omega), hm]; rfl
  refine g_aload_n C0 dJ2_fastRemove_0 rfl ?_
  refine g_dup C0 dJ2_fastRemove_1 rfl ?_
  refine g_getS C0 KJ2 (hL.elt hc) 0 rfl q127 q126 (by decide) dJ2_fastRemove_2 ?_
  refine g_iconst (v := 1) C0 dJ2_fastRemove_5 (by decide) ?_
  refine g_iadd C0 dJ2_fastRemove_6 ?_
  refine g_putS (fs' := [.int (md + 1), .ref ea, .int (nI gs.length)]) C0 KJ2 (hL.elt hc) 0 rfl q127 q126 (by decide) rfl rfl rfl (Nat.le_of_ble_eq_true rfl) dJ2_fastRemove_7 ?_
  have he1 : gU h a (ta, .inr (1, [.int (md + 1), .ref ea, .int (nI gs.length)])) ea = _ := (gU_n (hL.ne hc).symm).trans (hL.2.1 hc)
  have ho1 : gObs V (gU h a (ta, .inr (1, [.int (md + 1), .ref ea, .int (nI gs.length)]))) gs := fun y hy => (hob y hy).putL (hL.elt hc) rfl
  refine g_aload_n C0 dJ2_fastRemove_10 rfl ?_
  refine g_get C0 KJ2 gU_s 2 rfl q123 rfl (by decide) dJ2_fastRemove_11 ?_
  refine g_iconst (v := 1) C0 dJ2_fastRemove_14 (by decide) ?_
  refine g_isub C0 dJ2_fastRemove_15 ?_
  refine g_i (y := nI m) ((by rw [hm]; exact nI_pred m)) ?_
  refine g_dup C0 dJ2_fastRemove_16 rfl ?_
  refine g_istore_n (lv' := [(3, .int (nI m)), (0, .ref a), (1, .ref ea), (2, .int (nI i))]) C0 dJ2_fastRemove_17 (by decide) rfl ?_
  refine g_iload_n C0 dJ2_fastRemove_18 rfl ?_
  refine g_icmp_le (tgt := 34) C0 dJ2_fastRemove_19 (by decide) (fun c_1 => ?_) (fun c_1 => ?_)
  · refine g_aload_n C0 dJ2_fastRemove_34 rfl ?_
    refine g_aload_n C0 dJ2_fastRemove_35 rfl ?_
    refine g_iload_n C0 dJ2_fastRemove_36 rfl ?_
    refine g_dup_x1 C0 dJ2_fastRemove_37 rfl rfl ?_
    refine g_put (fs' := [.int (md + 1), .ref ea, .int (nI m)]) C0 KJ2 gU_s 2 rfl q123 rfl (by decide) rfl rfl rfl (Nat.le_of_ble_eq_true rfl) dJ2_fastRemove_38 ?_
    have he2 : gU (gU h a (ta, .inr (1, [.int (md + 1), .ref ea, .int (nI gs.length)]))) a (ta, .inr (1, [.int (md + 1), .ref ea, .int (nI m)])) ea = _ := (gU_n (hL.ne hc).symm).trans he1
    refine g_null C0 dJ2_fastRemove_41 ?_
    have hmi : i = m := by have := (nI_leI (by omega) (by omega)).mp c_1; omega
    subst hmi
    refine g_aastN (f' := fun j => (gs.eraseIdx i)[j]?) C0 he2 (vp_in_nI (by omega) (by omega)) dJ2_fastRemove_42 (by rw [nI_clamp (by omega)]; exact gRem_last hm) ?_
    exact g_vret C0 E0 dJ2_fastRemove_43 (Nat.le_of_ble_eq_true rfl) (Nat.le_of_ble_eq_true rfl) ⟨hL.putE hc (by omega) hlen, ((gFr.put (Or.inl rfl)).tr (gFr.put (Or.inl rfl))).tr (gFr.put (Or.inr ⟨hc, rfl⟩))⟩
  · refine g_aload_n C0 dJ2_fastRemove_22 rfl ?_
    refine g_iload_n C0 dJ2_fastRemove_23 rfl ?_
    refine g_iconst (v := 1) C0 dJ2_fastRemove_24 (by decide) ?_
    refine g_iadd C0 dJ2_fastRemove_25 ?_
    refine g_i (y := nI (i + 1)) (nI_1 i) ?_
    refine g_aload_n C0 dJ2_fastRemove_26 rfl ?_
    refine g_iload_n C0 dJ2_fastRemove_27 rfl ?_
    refine g_iload_n C0 dJ2_fastRemove_28 rfl ?_
    refine g_iload_n C0 dJ2_fastRemove_29 rfl ?_
    refine g_isub C0 dJ2_fastRemove_30 ?_
    refine g_i (y := nI (m - i)) (pk_sub hi) ?_
    refine g_copyq (st := []) (g' := va_cpy (fun j => gs[j]?) (fun j => gs[j]?) (i + 1) i (m - i)) C0 q865 q598 q597 q69 qIO he1 he1 (nI_pos (by omega)) (nI_pos (by omega)) (nI_pos (by omega)) (by rw [nI_clamp (by omega), nI_clamp (by omega)]; omega) (by rw [nI_clamp (by omega), nI_clamp (by omega)]; omega) ho1.at (Nat.le_of_ble_eq_true rfl) (Nat.le_of_ble_eq_true rfl) dJ2_fastRemove_31 (by rw [nI_clamp (by omega), nI_clamp (by omega), nI_clamp (by omega)]) ?_
    have ha2 := gU_n (h := gU h a (ta, .inr (1, [.int (md + 1), .ref ea, .int (nI gs.length)]))) (x := (te, .inl (gK V 1, cap, .inr (.inr (.inr (.inr (va_cpy (fun j => gs[j]?) (fun j => gs[j]?) (i + 1) i (m - i)))))))) (hL.ne hc)
    rw [gU_s] at ha2
    refine g_aload_n C0 dJ2_fastRemove_34 rfl ?_
    refine g_aload_n C0 dJ2_fastRemove_35 rfl ?_
    refine g_iload_n C0 dJ2_fastRemove_36 rfl ?_
    refine g_dup_x1 C0 dJ2_fastRemove_37 rfl rfl ?_
    refine g_put (fs' := [.int (md + 1), .ref ea, .int (nI m)]) C0 KJ2 ha2 2 rfl q123 rfl (by decide) rfl rfl rfl (Nat.le_of_ble_eq_true rfl) dJ2_fastRemove_38 ?_
    rw [gU_c (hL.ne hc).symm]
    have he2 := gU_s (h := gU (gU h a (ta, .inr (1, [.int (md + 1), .ref ea, .int (nI gs.length)]))) a (ta, .inr (1, [.int (md + 1), .ref ea, .int (nI m)]))) (a := ea) (x := (te, .inl (gK V 1, cap, .inr (.inr (.inr (.inr (va_cpy (fun j => gs[j]?) (fun j => gs[j]?) (i + 1) i (m - i))))))))
    refine g_null C0 dJ2_fastRemove_41 ?_
    refine g_aastN (f' := fun j => (gs.eraseIdx i)[j]?) C0 he2 (vp_in_nI (by omega) (by omega)) dJ2_fastRemove_42 (by rw [nI_clamp (by omega)]; exact gRem_mid hm hi) ?_
    rw [gU_u]
    exact g_vret C0 E0 dJ2_fastRemove_43 (Nat.le_of_ble_eq_true rfl) (Nat.le_of_ble_eq_true rfl) ⟨hL.putE hc (by omega) hlen, ((gFr.put (Or.inl rfl)).tr (gFr.put (Or.inl rfl))).tr (gFr.put (Or.inr ⟨hc, rfl⟩))⟩

theorem m_remove (l : Launch) (V : gV) {h : gH} {a ta ea te cap : Nat} {md : Int32} {gs : List Nat} (hL : gLs V h a ta ea te cap md gs) (hob : gObs V h gs) {i g : Nat} (hg : gs[i]? = some g) : MX l V yJ2_remove cJ2_remove 4 (some (.object "java/lang/Object")) 2 53 0 0 [.ref a, .int (nI i)] h (pR (fun v h' => v = g ∧ gLs V h' a ta ea te cap (md + 1) (gs.eraseIdx i) ∧ gFr (fun q => q = a ∨ (cap ≠ 0 ∧ q = ea)) h h') xN) := by
  refine MX.of (lv0 := [(0, .ref a), (1, .int (nI i))]) (by decide +kernel) rfl (Nat.le_of_ble_eq_true rfl) ?_
  intro Γ C0 E0 T0 N0
  have C0 : gC_ Γ l V "java/util/ArrayList" cJ2_remove 4 (some (.object "java/lang/Object")) ({ frames := 2, cells := 0, slots := 0, locals := 53 } : Room) := C0
  obtain ⟨hc, hj2⟩ := hL.cap hg
  have hcap := hL.2.2.1
  have hmm := hL.2.2.2
  obtain ⟨m, hm⟩ : ∃ m, gs.length = m + 1 := ⟨gs.length - 1, by omega⟩
  have hi : i ≤ m := by omega
  refine g_iload_n C0 dJ2_remove_0 rfl ?_
  refine g_aload_n C0 dJ2_remove_1 rfl ?_
  refine g_get C0 KJ2 (hL.elt hc) 2 rfl q123 rfl (by decide) dJ2_remove_2 ?_
  refine g_callS (As := [.int (nI i), .int (nI gs.length)]) (rest := []) (nA := 2) C0 (m_chk2 l V hj2 hL.lt) (lw_S q227 q228 q74 q229) (by decide +kernel) rfl ⟨Nat.le_of_ble_eq_true rfl, Nat.le_of_ble_eq_true rfl, (Nat.le_of_ble_eq_true rfl), (Nat.le_of_ble_eq_true rfl)⟩ rfl (Nat.le_of_ble_eq_true rfl) dJ2_remove_5 (kIe ?_) (kN fun _ _ h => h)
  refine g_pop C0 dJ2_remove_8 rfl ?_
  refine g_aload_n C0 dJ2_remove_9 rfl ?_
  refine g_get C0 KJ2 (hL.elt hc) 1 rfl q120 rfl (by decide) dJ2_remove_10 ?_
  refine g_astore_n (lv' := [(2, .ref ea), (0, .ref a), (1, .int (nI i))]) C0 dJ2_remove_13 (by decide) rfl ?_
  refine g_aload_n C0 dJ2_remove_14 rfl ?_
  refine g_iload_n C0 dJ2_remove_15 rfl ?_
  refine g_aald C0 (hL.2.1 hc) (vp_in_nI (by omega) (by omega)) dJ2_remove_16 ?_
  rw [nI_clamp (by omega), hg]
  refine g_astore_n (lv' := [(3, .ref g), (2, .ref ea), (0, .ref a), (1, .int (nI i))]) C0 dJ2_remove_17 (by decide) rfl ?_
  refine g_aload_n C0 dJ2_remove_18 rfl ?_
  refine g_aload_n C0 dJ2_remove_19 rfl ?_
  refine g_iload_n C0 dJ2_remove_20 rfl ?_
  refine g_callV (C := "java/util/ArrayList") (As := [.ref ea, .int (nI i)]) (rest := []) (nA := 2) C0 (m_fastRemove l V hL hob hm hi) (lw_V q861 q863 qs24 q59 q864) (hL.elt hc) rfl rfl (by decide +kernel) rfl ⟨Nat.le_of_ble_eq_true rfl, Nat.le_of_ble_eq_true rfl, (Nat.le_of_ble_eq_true rfl), (Nat.le_of_ble_eq_true rfl)⟩ rfl (Nat.le_of_ble_eq_true rfl) dJ2_remove_21 (kV fun h_1 hp => ?_) (kN fun _ _ h => h)
  refine g_aload_n C0 dJ2_remove_24 rfl ?_
  exact g_aret C0 E0 dJ2_remove_25 (Or.inl ⟨_, rfl⟩) (Or.inr ⟨_, rfl⟩) (Nat.le_of_ble_eq_true rfl) (Nat.le_of_ble_eq_true rfl) ⟨rfl, hp⟩

theorem m_equals (l : Launch) (V : gV) {h : gH} {b x : Nat} : MX l V yJ20_equals cJ20_equals 2 (some .boolean) 0 0 0 0 [.ref b, .ref x] h (pI (fun v h' => v = (if b = x then 1 else 0) ∧ h' = h) xN) := by
  refine MX.of (lv0 := [(0, .ref b), (1, .ref x)]) (by decide +kernel) rfl (Nat.le_of_ble_eq_true rfl) ?_
  intro Γ C0 E0 T0 N0
  have C0 : gC_ Γ l V "java/lang/Object" cJ20_equals 2 (some .boolean) ({ frames := 0, cells := 0, slots := 0, locals := 0 } : Room) := C0
  refine g_aload_n C0 dJ20_equals_0 rfl ?_
  refine g_aload_n C0 dJ20_equals_1 rfl ?_
  refine g_rcmp_ne (tgt := 9) C0 dJ20_equals_2 (by decide) (fun c_1 => ?_) (fun c_1 => ?_)
  · refine g_iconst (v := 0) C0 dJ20_equals_9 (by decide) ?_
    exact g_zret C0 E0 dJ20_equals_10 rfl (Nat.le_of_ble_eq_true rfl) (Nat.le_of_ble_eq_true rfl) ⟨(if_neg c_1).symm, rfl⟩
  · refine g_iconst (v := 1) C0 dJ20_equals_5 (by decide) ?_
    refine g_goto (tgt := 10) C0 dJ20_equals_6 (by decide) ?_
    exact g_zret C0 E0 dJ20_equals_10 rfl (Nat.le_of_ble_eq_true rfl) (Nat.le_of_ble_eq_true rfl) ⟨(if_pos c_1).symm, rfl⟩

theorem eq_ifz {x y : Nat} : ((if x = y then 1 else 0 : Int32) = 0) ↔ ¬ x = y := by
  by_cases e : x = y
  · rw [if_pos e]; exact ⟨fun h => absurd h (by decide), fun h => absurd e h⟩
  · rw [if_neg e]; exact ⟨fun _ => e, fun _ => rfl⟩
theorem hb_s {gs : List Nat} {i x y : Nat} (hb : ∀ j, j < i → gs[j]? ≠ some x) (hy : gs[i]? = some y) (n : ¬ x = y) : ∀ j, j < i + 1 → gs[j]? ≠ some x := by
  intro j hj
  rcases Nat.lt_or_ge j i with q | q
  · exact hb j q
  · have e : j = i := by omega
    rw [e, hy]
    exact fun e2 => n (Option.some.inj e2).symm
theorem m_indexOfRange (l : Launch) (V : gV) {h : gH} {a ta ea te cap : Nat} {md : Int32} {gs : List Nat} (hL : gLs V h a ta ea te cap md gs) (hc : cap ≠ 0) {tx : Nat} {x : Nat} {fs : List Value} (hx : h x = some (tx, .inr (17, fs))) : MX l V yJ2_indexOfRange cJ2_indexOfRange 6 (some .int) 1 21 0 0 [.ref a, .ref x, .int 0, .int (nI gs.length)] h (pI (fun v h' => ((v = -1 ∧ x ∉ gs) ∨ ∃ j : Nat, gs[j]? = some x ∧ v = nI j ∧ ∀ i, i < j → gs[i]? ≠ some x) ∧ h' = h) xN) := by
  refine MX.of (lv0 := [(0, .ref a), (1, .ref x), (2, .int 0), (3, .int (nI gs.length))]) (by decide +kernel) rfl (Nat.le_of_ble_eq_true rfl) ?_
  intro Γ C0 E0 T0 N0
  have C0 : gC_ Γ l V "java/util/ArrayList" cJ2_indexOfRange 6 (some .int) ({ frames := 1, cells := 0, slots := 0, locals := 21 } : Room) := C0
  have hmm := hL.2.2.2
  have hcap := hL.2.2.1
  have key : ∀ (r i : Nat), gs.length < i + r → i ≤ gs.length → (∀ j, j < i → gs[j]? ≠ some x) → G Γ h [(5, .int (nI i)), (4, .ref ea), (0, .ref a), (1, .ref x), (2, .int 0), (3, .int (nI gs.length))] 0 0 42 [] := by
    intro r; induction r with
    | zero => intro i h1 h2; omega
    | succ r ih =>
      intro i h1 h2 hb
      refine g_iload C0 dJ2_indexOfRange_42 rfl ?_
      refine g_iload_n C0 dJ2_indexOfRange_44 rfl ?_
      refine g_icmp_ge (tgt := 69) C0 dJ2_indexOfRange_45 (by decide) (fun c_1 => ?_) (fun c_1 => ?_)
      · refine g_iconst (v := (-1)) C0 dJ2_indexOfRange_69 (by decide) ?_
        exact g_iret C0 E0 dJ2_indexOfRange_70 (Nat.le_of_ble_eq_true rfl) (Nat.le_of_ble_eq_true rfl) ⟨(Or.inl ⟨rfl, fun hm => by obtain ⟨j, hj⟩ := List.getElem?_of_mem hm; have hl := (List.getElem?_eq_some_iff.mp hj).1; exact hb j (Nat.lt_of_lt_of_le hl ((nI_leI (by omega) (by omega)).mp c_1)) hj⟩), rfl⟩
      · refine g_aload_n C0 dJ2_indexOfRange_48 rfl ?_
        refine g_aload C0 dJ2_indexOfRange_49 rfl ?_
        refine g_iload C0 dJ2_indexOfRange_51 rfl ?_
        refine g_aald C0 (hL.2.1 hc) (vp_in_nI (by have hlt : i < gs.length := Nat.lt_of_not_le (fun q => c_1 (nI_le q (by omega))); omega) (by omega)) dJ2_indexOfRange_53 ?_
        have hlt : i < gs.length := Nat.lt_of_not_le (fun q => c_1 (nI_le q (by omega)))
        obtain ⟨y, hy⟩ : ∃ y, gs[i]? = some y := ⟨gs[i], List.getElem?_eq_getElem hlt⟩
        rw [nI_clamp (by omega), hy]
        refine g_callU (C := "BloomclockModel$Trolley") (As := [.ref y]) (rest := []) (nA := 1) C0 (m_equals l V (b := x) (x := y)) q1893 q1860 q1862 q1884 q1861 q2046 rfl hx rfl rfl (by decide +kernel) rfl ⟨Nat.le_of_ble_eq_true rfl, Nat.le_of_ble_eq_true rfl, Nat.le_of_ble_eq_true rfl, Nat.le_of_ble_eq_true rfl⟩ rfl (Nat.le_of_ble_eq_true rfl) dJ2_indexOfRange_54 (kIe ?_) (kN fun _ _ h => h)
        refine g_if_eq (tgt := 63) C0 dJ2_indexOfRange_57 (by decide) (fun c_2 => ?_) (fun c_2 => ?_)
        · refine g_iinc (v := nI (i + 1)) (lv' := [(5, .int (nI (i + 1))), (4, .ref ea), (0, .ref a), (1, .ref x), (2, .int 0), (3, .int (nI gs.length))]) C0 dJ2_indexOfRange_63 rfl (nI_1 i) (by decide) rfl ?_
          refine g_goto (tgt := 42) C0 dJ2_indexOfRange_66 (by decide) ?_
          exact ih (i + 1) (by omega) (by omega) (hb_s hb hy (eq_ifz.mp c_2))
        · refine g_iload C0 dJ2_indexOfRange_60 rfl ?_
          exact g_iret C0 E0 dJ2_indexOfRange_62 (Nat.le_of_ble_eq_true rfl) (Nat.le_of_ble_eq_true rfl) ⟨(Or.inr ⟨i, by rw [hy, show y = x from (Classical.not_not.mp (fun q => c_2 (eq_ifz.mpr q))).symm], rfl, hb⟩), rfl⟩
  refine g_aload_n C0 dJ2_indexOfRange_0 rfl ?_
  refine g_get C0 KJ2 (hL.elt hc) 1 rfl q120 rfl (by decide) dJ2_indexOfRange_1 ?_
  refine g_astore (lv' := [(4, .ref ea), (0, .ref a), (1, .ref x), (2, .int 0), (3, .int (nI gs.length))]) C0 dJ2_indexOfRange_4 (by decide) rfl ?_
  refine g_aload_n C0 dJ2_indexOfRange_6 rfl ?_
  refine g_ifnonnull (tgt := 39) C0 dJ2_indexOfRange_7 (by decide) ?_
  refine g_iload_n C0 dJ2_indexOfRange_39 rfl ?_
  refine g_istore (lv' := [(5, .int 0), (4, .ref ea), (0, .ref a), (1, .ref x), (2, .int 0), (3, .int (nI gs.length))]) C0 dJ2_indexOfRange_40 (by decide) rfl ?_
  exact key (gs.length + 1) 0 (by omega) (by omega) (fun j hj => absurd hj (by omega))

theorem m_indexOfRange0 (l : Launch) (V : gV) {h : gH} {a ta : Nat} {md : Int32} (hL : h a = some (ta, .inr (1, [.int md, .ref (gX V 0), .int (nI 0)]))) {x : Nat} : MX l V yJ2_indexOfRange cJ2_indexOfRange 6 (some .int) 1 21 0 0 [.ref a, .ref x, .int 0, .int (nI 0)] h (pI (fun v h' => ((v = -1 ∧ x ∉ ([] : List Nat)) ∨ ∃ j : Nat, ([] : List Nat)[j]? = some x ∧ v = nI j ∧ ∀ i, i < j → ([] : List Nat)[i]? ≠ some x) ∧ h' = h) xN) := by
  refine MX.of (lv0 := [(0, .ref a), (1, .ref x), (2, .int 0), (3, .int (nI 0))]) (by decide +kernel) rfl (Nat.le_of_ble_eq_true rfl) ?_
  intro Γ C0 E0 T0 N0
  have C0 : gC_ Γ l V "java/util/ArrayList" cJ2_indexOfRange 6 (some .int) ({ frames := 1, cells := 0, slots := 0, locals := 21 } : Room) := C0
  refine g_aload_n C0 dJ2_indexOfRange_0 rfl ?_
  refine g_get C0 KJ2 hL 1 rfl q120 rfl (by decide) dJ2_indexOfRange_1 ?_
  refine g_astore (lv' := [(4, .ref (gX V 0)), (0, .ref a), (1, .ref x), (2, .int 0), (3, .int (nI 0))]) C0 dJ2_indexOfRange_4 (by decide) rfl ?_
  refine g_aload_n C0 dJ2_indexOfRange_6 rfl ?_
  refine g_ifnonnull (tgt := 39) C0 dJ2_indexOfRange_7 (by decide) ?_
  refine g_iload_n C0 dJ2_indexOfRange_39 rfl ?_
  refine g_istore (lv' := [(5, .int 0), (4, .ref (gX V 0)), (0, .ref a), (1, .ref x), (2, .int 0), (3, .int (nI 0))]) C0 dJ2_indexOfRange_40 (by decide) rfl ?_
  refine g_iload C0 dJ2_indexOfRange_42 rfl ?_
  refine g_iload_n C0 dJ2_indexOfRange_44 rfl ?_
  refine g_icmp_ge (tgt := 69) C0 dJ2_indexOfRange_45 (by decide) (fun _ => ?_) (fun c_1 => absurd (by decide +kernel) c_1)
  refine g_iconst (v := (-1)) C0 dJ2_indexOfRange_69 (by decide) ?_
  exact g_iret C0 E0 dJ2_indexOfRange_70 (Nat.le_of_ble_eq_true rfl) (Nat.le_of_ble_eq_true rfl) ⟨Or.inl ⟨rfl, by simp⟩, rfl⟩

theorem m_indexOfRangeA (l : Launch) (V : gV) {h : gH} {a ta ea te cap : Nat} {md : Int32} {gs : List Nat} (hL : gLs V h a ta ea te cap md gs) {tx : Nat} {x : Nat} {fs : List Value} (hx : h x = some (tx, .inr (17, fs))) : MX l V yJ2_indexOfRange cJ2_indexOfRange 6 (some .int) 1 21 0 0 [.ref a, .ref x, .int 0, .int (nI gs.length)] h (pI (fun v h' => ((v = -1 ∧ x ∉ gs) ∨ ∃ j : Nat, gs[j]? = some x ∧ v = nI j ∧ ∀ i, i < j → gs[i]? ≠ some x) ∧ h' = h) xN) := by
  by_cases hc : cap = 0
  · subst hc
    have e : gs = [] := List.length_eq_zero_iff.mp (Nat.le_zero.mp hL.2.2.1)
    subst e
    exact m_indexOfRange0 l V hL.1
  · exact m_indexOfRange l V hL hc hx
theorem m_indexOf (l : Launch) (V : gV) {h : gH} {a ta ea te cap : Nat} {md : Int32} {gs : List Nat} (hL : gLs V h a ta ea te cap md gs) {tx : Nat} {x : Nat} {fs : List Value} (hx : h x = some (tx, .inr (17, fs))) : MX l V yJ2_indexOf cJ2_indexOf 2 (some .int) 2 46 0 0 [.ref a, .ref x] h (pI (fun v h' => ((v = -1 ∧ x ∉ gs) ∨ ∃ j : Nat, gs[j]? = some x ∧ v = nI j ∧ ∀ i, i < j → gs[i]? ≠ some x) ∧ h' = h) xN) := by
  refine MX.of (lv0 := [(0, .ref a), (1, .ref x)]) (by decide +kernel) rfl (Nat.le_of_ble_eq_true rfl) ?_
  intro Γ C0 E0 T0 N0
  have C0 : gC_ Γ l V "java/util/ArrayList" cJ2_indexOf 2 (some .int) ({ frames := 2, cells := 0, slots := 0, locals := 46 } : Room) := C0
  refine g_aload_n C0 dJ2_indexOf_0 rfl ?_
  refine g_aload_n C0 dJ2_indexOf_1 rfl ?_
  refine g_iconst (v := 0) C0 dJ2_indexOf_2 (by decide) ?_
  refine g_aload_n C0 dJ2_indexOf_3 rfl ?_
  refine g_get C0 KJ2 hL.1 2 rfl q123 rfl (by decide) dJ2_indexOf_4 ?_
  refine g_callV (C := "java/util/ArrayList") (As := [.ref x, .int 0, .int (nI gs.length)]) (rest := []) (nA := 3) C0 (m_indexOfRangeA l V hL hx) (lw_V q1855 q1856 q1857 q59 q1858) hL.1 rfl rfl (by decide +kernel) rfl ⟨Nat.le_of_ble_eq_true rfl, Nat.le_of_ble_eq_true rfl, (Nat.le_of_ble_eq_true rfl), (Nat.le_of_ble_eq_true rfl)⟩ rfl (Nat.le_of_ble_eq_true rfl) dJ2_indexOf_7 (kI fun r_1 h_1 hp => ?_) (kN fun _ _ h => h)
  exact g_iret C0 E0 dJ2_indexOf_10 (Nat.le_of_ble_eq_true rfl) (Nat.le_of_ble_eq_true rfl) hp

theorem gCon0 {V : gV} {h : gH} {a ta ea te cap : Nat} {md : Int32} {gs : List Nat} (hL : gLs V h a ta ea te cap md gs) {x : Nat} {v : Int32} (hp : (v = -1 ∧ x ∉ gs) ∨ ∃ j : Nat, gs[j]? = some x ∧ v = nI j ∧ ∀ i, i < j → gs[i]? ≠ some x) (c : v < 0) : (if x ∈ gs then 1 else 0 : Int32) = 0 := by
  rcases hp with ⟨-, h1⟩ | ⟨j, h1, rfl, -⟩
  · exact if_neg h1
  · exact absurd c (nI_pos (by have := (hL.cap h1).2; have := hL.lt; omega))
theorem gCon1 {gs : List Nat} {x : Nat} {v : Int32} (hp : (v = -1 ∧ x ∉ gs) ∨ ∃ j : Nat, gs[j]? = some x ∧ v = nI j ∧ ∀ i, i < j → gs[i]? ≠ some x) (c : ¬ v < 0) : (if x ∈ gs then 1 else 0 : Int32) = 1 := by
  rcases hp with ⟨rfl, -⟩ | ⟨j, h1, -, -⟩
  · exact absurd (by decide) c
  · exact if_pos (List.mem_of_getElem? h1)
theorem m_contains (l : Launch) (V : gV) {h : gH} {a ta ea te cap : Nat} {md : Int32} {gs : List Nat} (hL : gLs V h a ta ea te cap md gs) {tx : Nat} {x : Nat} {fs : List Value} (hx : h x = some (tx, .inr (17, fs))) : MX l V yJ2_contains cJ2_contains 2 (some .boolean) 3 67 0 0 [.ref a, .ref x] h (pI (fun v h' => v = (if x ∈ gs then 1 else 0) ∧ h' = h) xN) := by
  refine MX.of (lv0 := [(0, .ref a), (1, .ref x)]) (by decide +kernel) rfl (Nat.le_of_ble_eq_true rfl) ?_
  intro Γ C0 E0 T0 N0
  have C0 : gC_ Γ l V "java/util/ArrayList" cJ2_contains 2 (some .boolean) ({ frames := 3, cells := 0, slots := 0, locals := 67 } : Room) := C0
  refine g_aload_n C0 dJ2_contains_0 rfl ?_
  refine g_aload_n C0 dJ2_contains_1 rfl ?_
  refine g_callV (C := "java/util/ArrayList") (As := [.ref x]) (rest := []) (nA := 1) C0 (m_indexOf l V hL hx) (lw_V q1851 q1852 q1853 q59 q1854) hL.1 rfl rfl (by decide +kernel) rfl ⟨Nat.le_of_ble_eq_true rfl, Nat.le_of_ble_eq_true rfl, (Nat.le_of_ble_eq_true rfl), (Nat.le_of_ble_eq_true rfl)⟩ rfl (Nat.le_of_ble_eq_true rfl) dJ2_contains_2 (kI fun r_1 h_1 hp => ?_) (kN fun _ _ h => h)
  obtain ⟨hp, rfl⟩ := hp
  refine g_if_lt (tgt := 12) C0 dJ2_contains_5 (by decide) (fun c_1 => ?_) (fun c_1 => ?_)
  · refine g_iconst (v := 0) C0 dJ2_contains_12 (by decide) ?_
    exact g_zret C0 E0 dJ2_contains_13 rfl (Nat.le_of_ble_eq_true rfl) (Nat.le_of_ble_eq_true rfl) ⟨(gCon0 hL hp c_1).symm, rfl⟩
  · refine g_iconst (v := 1) C0 dJ2_contains_8 (by decide) ?_
    refine g_goto (tgt := 13) C0 dJ2_contains_9 (by decide) ?_
    exact g_zret C0 E0 dJ2_contains_13 rfl (Nat.le_of_ble_eq_true rfl) (Nat.le_of_ble_eq_true rfl) ⟨(gCon1 hp c_1).symm, rfl⟩

theorem m_removeO (l : Launch) (V : gV) {h : gH} {a ta ea te cap : Nat} {md : Int32} {gs : List Nat} (hL : gLs V h a ta ea te cap md gs) (hob : gObs V h gs) {tx : Nat} {x : Nat} {fs : List Value} (hx : h x = some (tx, .inr (17, fs))) {j : Nat} (hj : gs[j]? = some x) (hfst : ∀ i, i < j → gs[i]? ≠ some x) : MX l V yJ2_remove_2 cJ2_remove_2 5 (some .boolean) 2 53 0 0 [.ref a, .ref x] h (pI (fun v h' => v = 1 ∧ gLs V h' a ta ea te cap (md + 1) (gs.eraseIdx j) ∧ gFr (fun q => q = a ∨ (cap ≠ 0 ∧ q = ea)) h h') xN) := by
  refine MX.of (lv0 := [(0, .ref a), (1, .ref x)]) (by decide +kernel) rfl (Nat.le_of_ble_eq_true rfl) ?_
  intro Γ C0 E0 T0 N0
  have C0 : gC_ Γ l V "java/util/ArrayList" cJ2_remove_2 5 (some .boolean) ({ frames := 2, cells := 0, slots := 0, locals := 53 } : Room) := C0
  have hmm := hL.2.2.2
  have hcap := hL.2.2.1
  obtain ⟨hc, hj2⟩ := hL.cap hj
  obtain ⟨m, hm⟩ : ∃ m, gs.length = m + 1 := ⟨gs.length - 1, by omega⟩
  have key : ∀ (r i : Nat), j < i + r → i ≤ j → G Γ h [(4, .int (nI i)), (3, .int (nI gs.length)), (2, .ref ea), (0, .ref a), (1, .ref x)] 0 0 39 [] := by
    intro r; induction r with
    | zero => intro i h1 h2; omega
    | succ r ih =>
      intro i h1 hi
      have hlt : i < gs.length := by omega
      refine g_iload C0 dJ2_remove_2_39 rfl ?_
      refine g_iload_n C0 dJ2_remove_2_41 rfl ?_
      refine g_icmp_ge (tgt := 65) C0 dJ2_remove_2_42 (by decide) (fun c_1 => absurd c_1 (nI_ge hlt (by omega))) (fun _ => ?_)
      refine g_aload_n C0 dJ2_remove_2_45 rfl ?_
      refine g_aload_n C0 dJ2_remove_2_46 rfl ?_
      refine g_iload C0 dJ2_remove_2_47 rfl ?_
      refine g_aald C0 (hL.2.1 hc) (vp_in_nI (by omega) (by omega)) dJ2_remove_2_49 ?_
      obtain ⟨y, hy⟩ : ∃ y, gs[i]? = some y := ⟨gs[i], List.getElem?_eq_getElem hlt⟩
      rw [nI_clamp (by omega), hy]
      refine g_callU (C := "BloomclockModel$Trolley") (As := [.ref y]) (rest := []) (nA := 1) C0 (m_equals l V (b := x) (x := y)) q1893 q1860 q1862 q1884 q1861 q2046 rfl hx rfl rfl (by decide +kernel) rfl ⟨Nat.le_of_ble_eq_true rfl, Nat.le_of_ble_eq_true rfl, Nat.le_of_ble_eq_true rfl, Nat.le_of_ble_eq_true rfl⟩ rfl (Nat.le_of_ble_eq_true rfl) dJ2_remove_2_50 (kIe ?_) (kN fun _ _ h => h)
      refine g_if_eq (tgt := 59) C0 dJ2_remove_2_53 (by decide) (fun c_2 => ?_) (fun c_2 => ?_)
      · refine g_iinc (v := nI (i + 1)) (lv' := [(4, .int (nI (i + 1))), (3, .int (nI gs.length)), (2, .ref ea), (0, .ref a), (1, .ref x)]) C0 dJ2_remove_2_59 rfl (nI_1 i) (by decide) rfl ?_
        refine g_goto (tgt := 39) C0 dJ2_remove_2_62 (by decide) ?_
        have hne : i ≠ j := fun e => (eq_ifz.mp c_2) (by rw [e, hj] at hy; exact Option.some.inj hy)
        exact ih (i + 1) (by omega) (by omega)
      · have hxy : x = y := Classical.not_not.mp (fun q => c_2 (eq_ifz.mpr q))
        have hij : i = j := Nat.le_antisymm hi (Nat.le_of_not_lt (fun q => hfst i q (by rw [hy, hxy])))
        subst hij
        refine g_goto (tgt := 67) C0 dJ2_remove_2_56 (by decide) ?_
        refine g_aload_n C0 dJ2_remove_2_67 rfl ?_
        refine g_aload_n C0 dJ2_remove_2_68 rfl ?_
        refine g_iload C0 dJ2_remove_2_69 rfl ?_
        refine g_callV (C := "java/util/ArrayList") (As := [.ref ea, .int (nI i)]) (rest := []) (nA := 2) C0 (m_fastRemove l V hL hob hm (by omega)) (lw_V q861 q863 qs24 q59 q864) (hL.elt hc) rfl rfl (by decide +kernel) rfl ⟨Nat.le_of_ble_eq_true rfl, Nat.le_of_ble_eq_true rfl, (Nat.le_of_ble_eq_true rfl), (Nat.le_of_ble_eq_true rfl)⟩ rfl (Nat.le_of_ble_eq_true rfl) dJ2_remove_2_71 (kV fun h_1 hp => ?_) (kN fun _ _ h => h)
        refine g_iconst (v := 1) C0 dJ2_remove_2_74 (by decide) ?_
        exact g_zret C0 E0 dJ2_remove_2_75 rfl (Nat.le_of_ble_eq_true rfl) (Nat.le_of_ble_eq_true rfl) ⟨rfl, hp⟩
  refine g_aload_n C0 dJ2_remove_2_0 rfl ?_
  refine g_get C0 KJ2 (hL.elt hc) 1 rfl q120 rfl (by decide) dJ2_remove_2_1 ?_
  refine g_astore_n (lv' := [(2, .ref ea), (0, .ref a), (1, .ref x)]) C0 dJ2_remove_2_4 (by decide) rfl ?_
  refine g_aload_n C0 dJ2_remove_2_5 rfl ?_
  refine g_get C0 KJ2 (hL.elt hc) 2 rfl q123 rfl (by decide) dJ2_remove_2_6 ?_
  refine g_istore_n (lv' := [(3, .int (nI gs.length)), (2, .ref ea), (0, .ref a), (1, .ref x)]) C0 dJ2_remove_2_9 (by decide) rfl ?_
  refine g_iconst (v := 0) C0 dJ2_remove_2_10 (by decide) ?_
  refine g_istore (lv' := [(4, .int 0), (3, .int (nI gs.length)), (2, .ref ea), (0, .ref a), (1, .ref x)]) C0 dJ2_remove_2_11 (by decide) rfl ?_
  refine g_aload_n C0 dJ2_remove_2_13 rfl ?_
  refine g_ifnonnull (tgt := 39) C0 dJ2_remove_2_14 (by decide) ?_
  exact key (j + 1) 0 (by omega) (by omega)

theorem m_itInit (l : Launch) (V : gV) {h : gH} {a ta ea te cap : Nat} {md : Int32} {gs : List Nat} (hL : gLs V h a ta ea te cap md gs) {q tq : Nat} (hq : h q = some (tq, .inr (19, [.int 0, .int 0, .int 0, .null]))) : MX l V yJ17_init cJ17_init 2 none 1 12 0 0 [.ref q, .ref a] h (pV (fun h' => h' = gU h q (tq, .inr (19, [.int 0, .int (-1), .int md, .ref a]))) xN) := by
  refine MX.of (lv0 := [(0, .ref q), (1, .ref a)]) (by decide +kernel) rfl (Nat.le_of_ble_eq_true rfl) ?_
  intro Γ C0 E0 T0 N0
  have C0 : gC_ Γ l V "java/util/ArrayList$Itr" cJ17_init 2 none ({ frames := 1, cells := 0, slots := 0, locals := 12 } : Room) := C0
  have hne : a ≠ q := fun e => by rw [← e, hL.1] at hq; cases hq
  refine g_aload_n C0 dJ17_init_0 rfl ?_
  refine g_aload_n C0 dJ17_init_1 rfl ?_
  refine g_putF (fs' := [.int 0, .int 0, .int 0, .ref a]) C0 KJ17 hq 3 rfl q1475 rfl (by decide) rfl N0 rfl rfl rfl (Nat.le_of_ble_eq_true rfl) dJ17_init_2 ?_
  have hl0 : gU h q (tq, .inr (19, [.int 0, .int 0, .int 0, .ref a])) a = _ := (gU_n (fun e => hne e)).trans hL.1
  refine g_aload_n C0 dJ17_init_5 rfl ?_
  refine g_objInit C0 q1471 qOI1 qOI2 dJ17_init_6 (Nat.le_of_ble_eq_true rfl) (Nat.le_of_ble_eq_true rfl) ?_
  refine g_aload_n C0 dJ17_init_9 rfl ?_
  refine g_iconst (v := (-1)) C0 dJ17_init_10 (by decide) ?_
  refine g_put (fs' := [.int 0, .int (-1), .int 0, .ref a]) C0 KJ17 gU_s 1 rfl q1473 rfl (by decide) rfl rfl rfl (Nat.le_of_ble_eq_true rfl) dJ17_init_11 ?_
  rw [gU_u]
  have hl1 : gU h q (tq, .inr (19, [.int 0, .int (-1), .int 0, .ref a])) a = _ := (gU_n (fun e => hne e)).trans hL.1
  refine g_aload_n C0 dJ17_init_14 rfl ?_
  refine g_aload_n C0 dJ17_init_15 rfl ?_
  refine g_get C0 KJ17 gU_s 3 rfl q1475 rfl (by decide) dJ17_init_16 ?_
  refine g_getS C0 KJ2 hl1 0 rfl q125 q126 (by decide) dJ17_init_19 ?_
  refine g_put (fs' := [.int 0, .int (-1), .int md, .ref a]) C0 KJ17 gU_s 2 rfl q1474 rfl (by decide) rfl rfl rfl (Nat.le_of_ble_eq_true rfl) dJ17_init_22 ?_
  rw [gU_u]
  have hl2 : gU h q (tq, .inr (19, [.int 0, .int (-1), .int md, .ref a])) a = _ := (gU_n (fun e => hne e)).trans hL.1
  exact g_vret C0 E0 dJ17_init_25 (Nat.le_of_ble_eq_true rfl) (Nat.le_of_ble_eq_true rfl) rfl

theorem m_iterator (l : Launch) (V : gV) {h : gH} {a ta ea te cap : Nat} {md : Int32} {gs : List Nat} (hL : gLs V h a ta ea te cap md gs) (tq : Nat) : MX l V yJ2_iterator cJ2_iterator 1 (some (.object "java/util/Iterator")) 2 33 1 4 [.ref a] h (pR (fun q h' => h q = none ∧ h' = gU h q (tq, .inr (19, [.int 0, .int (-1), .int md, .ref a]))) xN) := by
  refine MX.of (lv0 := [(0, .ref a)]) (by decide +kernel) rfl (Nat.le_of_ble_eq_true rfl) ?_
  intro Γ C0 E0 T0 N0
  have C0 : gC_ Γ l V "java/util/ArrayList" cJ2_iterator 1 (some (.object "java/util/Iterator")) ({ frames := 2, cells := 1, slots := 4, locals := 33 } : Room) := C0
  refine g_new (ci := 19) (fs := [.int 0, .int 0, .int 0, .null]) C0 tq KJ17 q1466 q1467 q84 (fun j hj => by rcases (show j = 0 ∨ j = 1 ∨ j = 2 ∨ j = 3 by omega) with rfl | rfl | rfl | rfl <;> rfl) (Nat.le_of_ble_eq_true rfl) (Nat.le_of_ble_eq_true rfl) dJ2_iterator_0 (fun a_1 hf_2 => ?_)
  have hf_1 := hf_2
  refine g_dup C0 dJ2_iterator_3 rfl ?_
  refine g_aload_n C0 dJ2_iterator_4 rfl ?_
  refine g_callI (As := [.ref a]) (rest := [.ref a_1]) (nA := 1) C0 (m_itInit l V (hL.fr (K := fun _ => False) (gFr.new hf_1) (fun q => q) (fun _ q => q)) gU_s) q1470 q84 q1468 q1469 rfl (by decide +kernel) rfl ⟨Nat.le_of_ble_eq_true rfl, Nat.le_of_ble_eq_true rfl, (Nat.le_of_ble_eq_true rfl), (Nat.le_of_ble_eq_true rfl)⟩ rfl (Nat.le_of_ble_eq_true rfl) dJ2_iterator_5 (kVe ?_) (kN fun _ _ h => h)
  rw [gU_u]
  exact g_aret C0 E0 dJ2_iterator_8 (Or.inl ⟨_, rfl⟩) (Or.inr ⟨_, rfl⟩) (Nat.le_of_ble_eq_true rfl) (Nat.le_of_ble_eq_true rfl) ⟨hf_1, rfl⟩

theorem m_hasNext (l : Launch) (V : gV) {h : gH} {a ta ea te cap : Nat} {md : Int32} {gs : List Nat} (hL : gLs V h a ta ea te cap md gs) {q tq j : Nat} {la : Int32} (hq : h q = some (tq, .inr (19, [.int (nI j), .int la, .int md, .ref a]))) (hj : j ≤ gs.length) : MX l V yJ17_hasNext cJ17_hasNext 1 (some .boolean) 0 0 0 0 [.ref q] h (pI (fun v h' => v = (if j = gs.length then 0 else 1) ∧ h' = h) xN) := by
  refine MX.of (lv0 := [(0, .ref q)]) (by decide +kernel) rfl (Nat.le_of_ble_eq_true rfl) ?_
  intro Γ C0 E0 T0 N0
  have C0 : gC_ Γ l V "java/util/ArrayList$Itr" cJ17_hasNext 1 (some .boolean) ({ frames := 0, cells := 0, slots := 0, locals := 0 } : Room) := C0
  have := hL.lt
  refine g_aload_n C0 dJ17_hasNext_0 rfl ?_
  refine g_get C0 KJ17 hq 0 rfl q1472 rfl (by decide) dJ17_hasNext_1 ?_
  refine g_aload_n C0 dJ17_hasNext_4 rfl ?_
  refine g_get C0 KJ17 hq 3 rfl q1475 rfl (by decide) dJ17_hasNext_5 ?_
  refine g_getN C0 KJ2 hL.1 2 rfl q122 rfl (by decide) dJ17_hasNext_8 ?_
  refine g_icmp_eq (tgt := 18) C0 dJ17_hasNext_11 (by decide) (fun c_1 => ?_) (fun c_1 => ?_)
  · refine g_iconst (v := 0) C0 dJ17_hasNext_18 (by decide) ?_
    exact g_zret C0 E0 dJ17_hasNext_19 rfl (Nat.le_of_ble_eq_true rfl) (Nat.le_of_ble_eq_true rfl) ⟨(if_pos ((nI_eq (by omega) (by omega)).mp c_1)).symm, rfl⟩
  · refine g_iconst (v := 1) C0 dJ17_hasNext_14 (by decide) ?_
    refine g_goto (tgt := 19) C0 dJ17_hasNext_15 (by decide) ?_
    exact g_zret C0 E0 dJ17_hasNext_19 rfl (Nat.le_of_ble_eq_true rfl) (Nat.le_of_ble_eq_true rfl) ⟨(if_neg (fun e => c_1 (by rw [e]))).symm, rfl⟩

theorem m_cfc (l : Launch) (V : gV) {h : gH} {a ta ea te cap : Nat} {md : Int32} {gs : List Nat} (hL : gLs V h a ta ea te cap md gs) {q tq j : Nat} {la : Int32} (hq : h q = some (tq, .inr (19, [.int (nI j), .int la, .int md, .ref a]))) : MX l V yJ17_checkForComodification cJ17_checkForComodification 1 none 0 0 0 0 [.ref q] h (pV (fun h' => h' = h) xN) := by
  refine MX.of (lv0 := [(0, .ref q)]) (by decide +kernel) rfl (Nat.le_of_ble_eq_true rfl) ?_
  intro Γ C0 E0 T0 N0
  have C0 : gC_ Γ l V "java/util/ArrayList$Itr" cJ17_checkForComodification 1 none ({ frames := 0, cells := 0, slots := 0, locals := 0 } : Room) := C0
  refine g_aload_n C0 dJ17_checkForComodification_0 rfl ?_
  refine g_get C0 KJ17 hq 3 rfl q1475 rfl (by decide) dJ17_checkForComodification_1 ?_
  refine g_getS C0 KJ2 hL.1 0 rfl q125 q126 (by decide) dJ17_checkForComodification_4 ?_
  refine g_aload_n C0 dJ17_checkForComodification_7 rfl ?_
  refine g_get C0 KJ17 hq 2 rfl q1474 rfl (by decide) dJ17_checkForComodification_8 ?_
  refine g_icmp_eq (tgt := 22) C0 dJ17_checkForComodification_11 (by decide) (fun _ => ?_) (fun c_1 => absurd rfl c_1)
  exact g_vret C0 E0 dJ17_checkForComodification_22 (Nat.le_of_ble_eq_true rfl) (Nat.le_of_ble_eq_true rfl) rfl

theorem m_next (l : Launch) (V : gV) {h : gH} {a ta ea te cap : Nat} {md : Int32} {gs : List Nat} (hL : gLs V h a ta ea te cap md gs) {q tq j : Nat} {la : Int32} (hq : h q = some (tq, .inr (19, [.int (nI j), .int la, .int md, .ref a]))) {g : Nat} (hg : gs[j]? = some g) : MX l V yJ17_next cJ17_next 3 (some (.object "java/lang/Object")) 1 20 0 0 [.ref q] h (pR (fun v h' => v = g ∧ h' = gU h q (tq, .inr (19, [.int (nI (j + 1)), .int (nI j), .int md, .ref a]))) xN) := by
  refine MX.of (lv0 := [(0, .ref q)]) (by decide +kernel) rfl (Nat.le_of_ble_eq_true rfl) ?_
  intro Γ C0 E0 T0 N0
  have C0 : gC_ Γ l V "java/util/ArrayList$Itr" cJ17_next 3 (some (.object "java/lang/Object")) ({ frames := 1, cells := 0, slots := 0, locals := 20 } : Room) := C0
  obtain ⟨hc, hj2⟩ := hL.cap hg
  have hmm := hL.2.2.2
  have hcap := hL.2.2.1
  have hne : ea ≠ q := fun e => by have h2 := hL.2.1 hc; rw [e, hq] at h2; cases h2
  refine g_aload_n C0 dJ17_next_0 rfl ?_
  refine g_callV (C := "java/util/ArrayList$Itr") (As := []) (rest := []) (nA := 0) C0 (m_cfc l V hL hq) (lw_V q1504 q1505 q1506 q84 q1507) hq rfl rfl (by decide +kernel) rfl ⟨Nat.le_of_ble_eq_true rfl, Nat.le_of_ble_eq_true rfl, (Nat.le_of_ble_eq_true rfl), (Nat.le_of_ble_eq_true rfl)⟩ rfl (Nat.le_of_ble_eq_true rfl) dJ17_next_1 (kVe ?_) (kN fun _ _ h => h)
  refine g_aload_n C0 dJ17_next_4 rfl ?_
  refine g_get C0 KJ17 hq 0 rfl q1472 rfl (by decide) dJ17_next_5 ?_
  refine g_istore_n (lv' := [(1, .int (nI j)), (0, .ref q)]) C0 dJ17_next_8 (by decide) rfl ?_
  refine g_iload_n C0 dJ17_next_9 rfl ?_
  refine g_aload_n C0 dJ17_next_10 rfl ?_
  refine g_get C0 KJ17 hq 3 rfl q1475 rfl (by decide) dJ17_next_11 ?_
  refine g_getN C0 KJ2 (hL.elt hc) 2 rfl q122 rfl (by decide) dJ17_next_14 ?_
  refine g_icmp_lt (tgt := 28) C0 dJ17_next_17 (by decide) (fun _ => ?_) (fun c_1 => absurd (nI_lt hj2 (by omega)) c_1)
  refine g_aload_n C0 dJ17_next_28 rfl ?_
  refine g_get C0 KJ17 hq 3 rfl q1475 rfl (by decide) dJ17_next_29 ?_
  refine g_get C0 KJ2 (hL.elt hc) 1 rfl q121 rfl (by decide) dJ17_next_32 ?_
  refine g_astore_n (lv' := [(2, .ref ea), (1, .int (nI j)), (0, .ref q)]) C0 dJ17_next_35 (by decide) rfl ?_
  refine g_iload_n C0 dJ17_next_36 rfl ?_
  refine g_aload_n C0 dJ17_next_37 rfl ?_
  refine g_alen (j := 1) C0 (hL.2.1 hc) rfl rfl dJ17_next_38 ?_
  refine g_icmp_lt (tgt := 50) C0 dJ17_next_39 (by decide) (fun _ => ?_) (fun c_2 => absurd (show nI j < Int32.ofNat cap from nI_lt (by omega) (by omega)) c_2)
  refine g_aload_n C0 dJ17_next_50 rfl ?_
  refine g_iload_n C0 dJ17_next_51 rfl ?_
  refine g_iconst (v := 1) C0 dJ17_next_52 (by decide) ?_
  refine g_iadd C0 dJ17_next_53 ?_
  refine g_i (y := nI (j + 1)) (nI_1 j) ?_
  refine g_put (fs' := [.int (nI (j + 1)), .int la, .int md, .ref a]) C0 KJ17 hq 0 rfl q1472 rfl (by decide) rfl rfl rfl (Nat.le_of_ble_eq_true rfl) dJ17_next_54 ?_
  have he0 : gU h q (tq, .inr (19, [.int (nI (j + 1)), .int la, .int md, .ref a])) ea = _ := (gU_n (fun e => hne e)).trans (hL.2.1 hc)
  refine g_aload_n C0 dJ17_next_57 rfl ?_
  refine g_aload_n C0 dJ17_next_58 rfl ?_
  refine g_iload_n C0 dJ17_next_59 rfl ?_
  refine g_dup_x1 C0 dJ17_next_60 rfl rfl ?_
  refine g_put (fs' := [.int (nI (j + 1)), .int (nI j), .int md, .ref a]) C0 KJ17 gU_s 1 rfl q1473 rfl (by decide) rfl rfl rfl (Nat.le_of_ble_eq_true rfl) dJ17_next_61 ?_
  rw [gU_u]
  have he1 : gU h q (tq, .inr (19, [.int (nI (j + 1)), .int (nI j), .int md, .ref a])) ea = _ := (gU_n (fun e => hne e)).trans (hL.2.1 hc)
  refine g_aald C0 he1 (vp_in_nI (by omega) (by omega)) dJ17_next_64 ?_
  rw [nI_clamp (by omega), hg]
  exact g_aret C0 E0 dJ17_next_65 (Or.inl ⟨_, rfl⟩) (Or.inr ⟨_, rfl⟩) (Nat.le_of_ble_eq_true rfl) (Nat.le_of_ble_eq_true rfl) ⟨rfl, rfl⟩

theorem m_valueOf (l : Launch) (V : gV) {h : gH} {j : Nat} (hj : j < 128) : MX l V yJ19_valueOf cJ19_valueOf 1 (some (.object "java/lang/Integer")) 0 0 0 0 [.int (nI j)] h (pR (fun v h' => v = gX V (13 + (j + 128)) ∧ h' = h) xN) := by
  refine MX.of (lv0 := [(0, .int (nI j))]) (by decide +kernel) rfl (Nat.le_of_ble_eq_true rfl) ?_
  intro Γ C0 E0 T0 N0
  have C0 : gC_ Γ l V "java/lang/Integer" cJ19_valueOf 1 (some (.object "java/lang/Integer")) ({ frames := 0, cells := 0, slots := 0, locals := 0 } : Room) := C0
  refine g_iload_n C0 dJ19_valueOf_0 rfl ?_
  refine g_bipush (v := (-128)) C0 dJ19_valueOf_1 (by decide) ?_
  refine g_icmp_lt (tgt := 23) C0 dJ19_valueOf_3 (by decide) (fun c_1 => absurd c_1 (by rw [Int32.lt_iff_toInt_lt, nI_toInt (by omega)]; show ¬ (j : Int) < -128; omega)) (fun _ => ?_)
  refine g_iload_n C0 dJ19_valueOf_6 rfl ?_
  refine g_gets (C := "java/lang/Integer$IntegerCache") (nm := "high") (ds := "I") (v := .int 127) C0 C0.2.2.2.2.1.2.2.2.2.2.2.2.1.1 q1552 rfl dJ19_valueOf_7 ?_
  refine g_icmp_gt (tgt := 23) C0 dJ19_valueOf_10 (by decide) (fun c_2 => absurd c_2 (by rw [show (127 : Int32) = nI 127 from by decide +kernel]; exact nI_nlt (by omega) (by omega))) (fun _ => ?_)
  refine g_gets (C := "java/lang/Integer$IntegerCache") (nm := "cache") (ds := "[Ljava/lang/Integer;") (v := .ref (gX V 12)) C0 C0.2.2.2.2.1.2.2.2.2.2.2.2.1.2.1 q1554 rfl dJ19_valueOf_13 ?_
  refine g_iload_n C0 dJ19_valueOf_16 rfl ?_
  refine g_sipush (v := 128) C0 dJ19_valueOf_17 (by decide) ?_
  refine g_iadd C0 dJ19_valueOf_20 ?_
  refine g_i (y := nI (j + 128)) ((by rw [show (128 : Int32) = nI 128 from by decide +kernel]; exact nI_add j 128)) ?_
  refine g_tq (v := .ref (gX V (13 + (j + 128)))) C0 C0.2.2.2.2.1.2.2.2.2.2.2.2.1.2.2.1 (vp_in_nI (by omega) (by omega)) (by rw [nI_clamp (by omega)]) dJ19_valueOf_21 ?_
  exact g_aret C0 E0 dJ19_valueOf_22 (Or.inl ⟨_, rfl⟩) (Or.inr ⟨_, rfl⟩) (Nat.le_of_ble_eq_true rfl) (Nat.le_of_ble_eq_true rfl) ⟨rfl, rfl⟩

theorem vb_c_128 {j : Nat} : vb_c (j + 128) = nI j := by
  unfold vb_c
  rw [show (128 : Int32) = nI 128 from by decide +kernel]
  exact (pk_sub (a := j + 128) (b := 128) (by omega)).trans (by rw [Nat.add_sub_cancel])
theorem g_getX {Γ : gG} {l : Launch} {V : gV} {own : String} {cc : ByteArray} {nL : Nat} {ret : Option FieldType} {rm : Room} {h : gH} {lv : List (Nat × Value)} {k n pc : Nat} {st : List Value} (C0 : gC_ Γ l V own cc nL ret rm) {o nm ds ref : String} {N : Nat} {v : Nat → Value} {ad : Nat → Nat} {index i : Nat} {x : Value} (hE : va_Ef N o nm ds v ad (gA_ Γ) (gs_ Γ) (gs_ Γ).heap) (hi : i < N) (w : Cond.fieldLink own index ref nm ds ∈ lw_all) (hr : o = ref) (e : v i = x) (d : decode cc pc = .ok (.getfield index, 3)) (K : G Γ h lv k n (pc + 3) (x :: st)) : G Γ h lv k n pc (.ref (ad i) :: st) := by
  subst e
  exact fun H locs ls hP hI hS hl => va_getX C0.1.1 C0.1.2.1 hE hi hS C0.1.2.2.2.1 (C0.1.2.2.2.2 _ w) (fun x hx => by rw [← hr]; exact hx) d (K H locs ls hP hI hS hl)
theorem m_intValue (l : Launch) (V : gV) {h : gH} {j : Nat} (hj : j < 128) : MX l V yJ19_intValue cJ19_intValue 1 (some .int) 0 0 0 0 [.ref (gX V (13 + (j + 128)))] h (pI (fun v h' => v = nI j ∧ h' = h) xN) := by
  refine MX.of (lv0 := [(0, .ref (gX V (13 + (j + 128))))]) (by decide +kernel) rfl (Nat.le_of_ble_eq_true rfl) ?_
  intro Γ C0 E0 T0 N0
  have C0 : gC_ Γ l V "java/lang/Integer" cJ19_intValue 1 (some .int) ({ frames := 0, cells := 0, slots := 0, locals := 0 } : Room) := C0
  refine g_aload_n C0 dJ19_intValue_0 rfl ?_
  refine g_getX (N := 256) (o := "java/lang/Integer") (nm := "value") (ds := "I") (v := fun k => .int (vb_c k)) (ad := fun k => gX V (13 + k)) (i := j + 128) (x := .int (nI j)) C0 C0.2.2.2.2.1.2.2.2.2.2.2.2.1.2.2.2.2 (by omega) q1565 rfl (by rw [vb_c_128]) dJ19_intValue_1 ?_
  exact g_iret C0 E0 dJ19_intValue_4 (Nat.le_of_ble_eq_true rfl) (Nat.le_of_ble_eq_true rfl) ⟨rfl, rfl⟩

theorem g_getE {Γ : gG} {l : Launch} {V : gV} {own : String} {cc : ByteArray} {nL : Nat} {ret : Option FieldType} {rm : Room} {h : gH} {lv : List (Nat × Value)} {k n pc : Nat} {st : List Value} (C0 : gC_ Γ l V own cc nL ret rm) {E ds ref : String} {nm : List String} {F : List (String × String × String × List Int32)} {ad : Nat → Nat} {index i : Nat} {q : String × String × String × List Int32} {x : Int32} (hE : va_En E ds nm F ad (gA_ Γ) (gs_ Γ) (gs_ Γ).heap) (hi : i < nm.length) (hq : q ∈ F) (w : Cond.fieldLink own index ref q.2.1 q.2.2.1 ∈ lw_all) (hr : q.1 = ref) (e : q.2.2.2.getD i 0 = x) (d : decode cc pc = .ok (.getfield index, 3)) (K : G Γ h lv k n (pc + 3) (.int x :: st)) : G Γ h lv k n pc (.ref (ad i) :: st) := by
  subst e
  exact fun H locs ls hP hI hS hl => va_getE C0.1.1 C0.1.2.1 hE hi hS C0.1.2.2.2.1 hq (C0.1.2.2.2.2 _ w) (fun x hx => by rw [← hr]; exact hx) d (K H locs ls hP hI hS hl)
theorem m_ordinal (l : Launch) (V : gV) {h : gH} {j : Nat} (hj : j < 4) : MX l V yJ16_ordinal cJ16_ordinal 1 (some .int) 0 0 0 0 [.ref (gX V (4 + j))] h (pI (fun v h' => v = nI j ∧ h' = h) xN) := by
  refine MX.of (lv0 := [(0, .ref (gX V (4 + j)))]) (by decide +kernel) rfl (Nat.le_of_ble_eq_true rfl) ?_
  intro Γ C0 E0 T0 N0
  have C0 : gC_ Γ l V "java/lang/Enum" cJ16_ordinal 1 (some .int) ({ frames := 0, cells := 0, slots := 0, locals := 0 } : Room) := C0
  refine g_aload_n C0 dJ16_ordinal_0 rfl ?_
  refine g_getE (q := ("java/lang/Enum", "ordinal", "I", [0, 1, 2, 3])) (i := j) (x := nI j) (ad := fun i => gX V (4 + i)) C0 C0.2.2.2.2.1.2.2.2.1 hj (by decide) q2087 rfl (by rcases (show j = 0 ∨ j = 1 ∨ j = 2 ∨ j = 3 by omega) with rfl | rfl | rfl | rfl <;> decide +kernel) dJ16_ordinal_1 ?_
  exact g_iret C0 E0 dJ16_ordinal_4 (Nat.le_of_ble_eq_true rfl) (Nat.le_of_ble_eq_true rfl) ⟨rfl, rfl⟩

end JDK3
