/-! THE JDK's METHODS THAT ARE REACHED -/
def jmax (x y : Int32) : Int32 := if x < y then y else x
def jmin (x y : Int32) : Int32 := if y < x then y else x
theorem gU_k {h : gH} {a b t t' : Nat} {x y : va_E} {z : gC} (hb : h b = some (t', y)) (ha : h a = some (t, x)) (n : t ≠ t') : gU h a z b = some (t', y) := by
  rw [gU_n (fun e => by subst e; rw [ha] at hb; cases hb; exact n rfl)]
  exact hb
theorem gU_f {h : gH} {b q : Nat} {y z : gC} (hb : h b = some y) (hq : h q = none) : gU h q z b = some y := by
  rw [gU_n (fun e => by subst e; rw [hq] at hb; cases hb)]
  exact hb
/-- the heap keeps all cells but those that K names -/
def gFr (K : Nat → Prop) (h h' : gH) : Prop := ∀ (b : Nat) (x : gC), h b = some x → ¬ K b → h' b = some x
theorem gFr.rf {K : Nat → Prop} {h : gH} : gFr K h h := fun _ _ e _ => e
theorem gFr.tr {K : Nat → Prop} {h h1 h2 : gH} (a : gFr K h h1) (b : gFr K h1 h2) : gFr K h h2 := fun q x e n => b q x (a q x e n) n
theorem gFr.put {K : Nat → Prop} {h : gH} {a : Nat} {z : gC} (ha : K a) : gFr K h (gU h a z) := fun q x e n => by rw [gU_n (fun w => n (by rw [w]; exact ha))]; exact e
theorem gFr.new {K : Nat → Prop} {h : gH} {q : Nat} {z : gC} (hq : h q = none) : gFr K h (gU h q z) := fun b x e _ => gU_f e hq
theorem gFr.wk {K K' : Nat → Prop} {h h1 : gH} (a : gFr K h h1) (k : ∀ q, K q → K' q) : gFr K' h h1 := fun q x e n => a q x e (fun w => n (k q w))
/-- a list object at a, of tag ta, its row of places at ea, of tag te, of cap places, holds the things gs -/
def gLs (V : gV) (h : gH) (a ta ea te cap : Nat) (md : Int32) (gs : List Nat) : Prop :=
  h a = some (ta, .inr (1, [.int md, .ref (if cap = 0 then gX V 0 else ea), .int (nI gs.length)])) ∧ (cap ≠ 0 → h ea = some (te, .inl (gK V 1, cap, .inr (.inr (.inr (.inr (fun j => gs[j]?))))))) ∧ gs.length ≤ cap ∧ cap < 1000000
theorem KX1 : gCl 0 RX1 TX1 18 tyX1 := ⟨rfl, in_X1, tyX1_ok, nmX1⟩
theorem KJ2 : gCl 1 RJ2 TJ2 3 tyJ2 := ⟨rfl, in_J2, tyJ2_ok, nmJ2⟩
theorem KX3 : gCl 2 RX3 TX3 6 tyX3 := ⟨rfl, in_X3, tyX3_ok, nmX3⟩
theorem KX5 : gCl 3 RX5 TX5 6 tyX5 := ⟨rfl, in_X5, tyX5_ok, nmX5⟩
theorem KX7 : gCl 4 RX7 TX7 10 tyX7 := ⟨rfl, in_X7, tyX7_ok, nmX7⟩
theorem KX10 : gCl 5 RX10 TX10 7 tyX10 := ⟨rfl, in_X10, tyX10_ok, nmX10⟩
theorem KX12 : gCl 6 RX12 TX12 7 tyX12 := ⟨rfl, in_X12, tyX12_ok, nmX12⟩
theorem KX15 : gCl 7 RX15 TX15 7 tyX15 := ⟨rfl, in_X15, tyX15_ok, nmX15⟩
theorem KX16 : gCl 8 RX16 TX16 3 tyX16 := ⟨rfl, in_X16, tyX16_ok, nmX16⟩
theorem KX14 : gCl 9 RX14 TX14 16 tyX14 := ⟨rfl, in_X14, tyX14_ok, nmX14⟩
theorem KX2 : gCl 10 RX2 TX2 18 tyX2 := ⟨rfl, in_X2, tyX2_ok, nmX2⟩
theorem KX4 : gCl 11 RX4 TX4 6 tyX4 := ⟨rfl, in_X4, tyX4_ok, nmX4⟩
theorem KX6 : gCl 12 RX6 TX6 7 tyX6 := ⟨rfl, in_X6, tyX6_ok, nmX6⟩
theorem KX9 : gCl 13 RX9 TX9 10 tyX9 := ⟨rfl, in_X9, tyX9_ok, nmX9⟩
theorem KX11 : gCl 14 RX11 TX11 7 tyX11 := ⟨rfl, in_X11, tyX11_ok, nmX11⟩
theorem KX13 : gCl 15 RX13 TX13 7 tyX13 := ⟨rfl, in_X13, tyX13_ok, nmX13⟩
theorem KX19 : gCl 16 RX19 TX19 8 tyX19 := ⟨rfl, in_X19, tyX19_ok, nmX19⟩
theorem KX18 : gCl 17 RX18 TX18 4 tyX18 := ⟨rfl, in_X18, tyX18_ok, nmX18⟩
theorem KX17 : gCl 18 RX17 TX17 13 tyX17 := ⟨rfl, in_X17, tyX17_ok, nmX17⟩
theorem KJ17 : gCl 19 RJ17 TJ17 4 tyJ17 := ⟨rfl, in_J17, tyJ17_ok, nmJ17⟩
theorem qOI1 : Cond.instanceMethod Lib.objectInit ∈ lw_all := q104
theorem qOI2 : Cond.code Lib.objectInit ⟨#[0xb1]⟩ 1 none ∈ lw_all := q105
theorem qMX1 : Cond.static Lib.Math.max.name ∈ lw_all := q390
theorem qMX2 : Cond.code Lib.Math.max.name Lib.Math.max.code 2 (some .int) ∈ lw_all := q391
theorem qMN1 : Cond.static Lib.Math.min.name ∈ lw_all := q239
theorem qMN2 : Cond.code Lib.Math.min.name Lib.Math.min.code 2 (some .int) ∈ lw_all := q240
theorem fok_size : gFok "java/util/ArrayList" ⟨"java/util/List", "size", "()I"⟩ ⟨"java/util/ArrayList", "size", "()I"⟩ := ⟨⟨q207, q206, q212, q210, q208⟩, by decide +kernel⟩
theorem fok_get : gFok "java/util/ArrayList" ⟨"java/util/List", "get", "(I)Ljava/lang/Object;"⟩ ⟨"java/util/ArrayList", "get", "(I)Ljava/lang/Object;"⟩ := ⟨⟨q221, q220, q225, q223, q208⟩, by decide +kernel⟩
theorem fok_add : gFok "java/util/ArrayList" ⟨"java/util/List", "add", "(Ljava/lang/Object;)Z"⟩ ⟨"java/util/ArrayList", "add", "(Ljava/lang/Object;)Z"⟩ := ⟨⟨q529, q528, q533, q531, q208⟩, by decide +kernel⟩
theorem fok_isEmpty : gFok "java/util/ArrayList" ⟨"java/util/List", "isEmpty", "()Z"⟩ ⟨"java/util/ArrayList", "isEmpty", "()Z"⟩ := ⟨⟨q834, q833, q838, q836, q208⟩, by decide +kernel⟩
theorem fok_remove : gFok "java/util/ArrayList" ⟨"java/util/List", "remove", "(I)Ljava/lang/Object;"⟩ ⟨"java/util/ArrayList", "remove", "(I)Ljava/lang/Object;"⟩ := ⟨⟨q855, q854, q859, q857, q208⟩, by decide +kernel⟩
theorem fok_hasNext : gFok "java/util/ArrayList$Itr" ⟨"java/util/Iterator", "hasNext", "()Z"⟩ ⟨"java/util/ArrayList$Itr", "hasNext", "()Z"⟩ := ⟨⟨q1488, q1487, q1493, q1491, q1489⟩, by decide +kernel⟩
theorem fok_next : gFok "java/util/ArrayList$Itr" ⟨"java/util/Iterator", "next", "()Ljava/lang/Object;"⟩ ⟨"java/util/ArrayList$Itr", "next", "()Ljava/lang/Object;"⟩ := ⟨⟨q1498, q1497, q1502, q1500, q1489⟩, by decide +kernel⟩
section JDK
theorem m_size (l : Launch) (V : gV) {h : gH} {a ta ea te cap : Nat} {md : Int32} {gs : List Nat} (hL : gLs V h a ta ea te cap md gs) : MX l V yJ2_size cJ2_size 1 (some .int) 0 0 0 0 [.ref a] h (pI (fun v h' => v = nI gs.length ∧ h' = h) xN) := by
  refine MX.of (lv0 := [(0, .ref a)]) (by decide +kernel) rfl (Nat.le_of_ble_eq_true rfl) ?_
  intro Γ C0 E0 T0 N0
  have C0 : gC_ Γ l V "java/util/ArrayList" cJ2_size 1 (some .int) ({ frames := 0, cells := 0, slots := 0, locals := 0 } : Room) := C0
  refine g_aload_n C0 dJ2_size_0 rfl ?_
  refine g_get C0 KJ2 hL.1 2 rfl q123 rfl (by decide) dJ2_size_1 ?_
  exact g_iret C0 E0 dJ2_size_4 (Nat.le_of_ble_eq_true rfl) (Nat.le_of_ble_eq_true rfl) ⟨rfl, rfl⟩

theorem gLs.nil {V : gV} {h : gH} {a ta ea te cap : Nat} {md : Int32} {gs : List Nat} (hL : gLs V h a ta ea te cap md gs) (c : nI gs.length = 0) : gs = [] := by
  have h1 := hL.2.2.1
  have h2 := hL.2.2.2
  cases gs with
  | nil => rfl
  | cons x t => exact absurd c (nI_ne0 (by simp) (by omega))
theorem gLs.lt {V : gV} {h : gH} {a ta ea te cap : Nat} {md : Int32} {gs : List Nat} (hL : gLs V h a ta ea te cap md gs) : gs.length < 1000000 := Nat.lt_of_le_of_lt hL.2.2.1 hL.2.2.2
theorem gLs.cap {V : gV} {h : gH} {a ta ea te cap : Nat} {md : Int32} {gs : List Nat} (hL : gLs V h a ta ea te cap md gs) {j g : Nat} (hj : gs[j]? = some g) : cap ≠ 0 ∧ j < gs.length := by
  have h1 := (List.getElem?_eq_some_iff.mp hj).1
  have h2 := hL.2.2.1
  exact ⟨by omega, h1⟩
theorem gLs.elt {V : gV} {h : gH} {a ta ea te cap : Nat} {md : Int32} {gs : List Nat} (hL : gLs V h a ta ea te cap md gs) (hc : cap ≠ 0) : h a = some (ta, .inr (1, [.int md, .ref ea, .int (nI gs.length)])) := by
  have h1 := hL.1
  rw [if_neg hc] at h1
  exact h1
theorem m_isEmpty (l : Launch) (V : gV) {h : gH} {a ta ea te cap : Nat} {md : Int32} {gs : List Nat} (hL : gLs V h a ta ea te cap md gs) : MX l V yJ2_isEmpty cJ2_isEmpty 1 (some .boolean) 0 0 0 0 [.ref a] h (pI (fun v h' => v = (if gs = [] then 1 else 0) ∧ h' = h) xN) := by
  refine MX.of (lv0 := [(0, .ref a)]) (by decide +kernel) rfl (Nat.le_of_ble_eq_true rfl) ?_
  intro Γ C0 E0 T0 N0
  have C0 : gC_ Γ l V "java/util/ArrayList" cJ2_isEmpty 1 (some .boolean) ({ frames := 0, cells := 0, slots := 0, locals := 0 } : Room) := C0
  refine g_aload_n C0 dJ2_isEmpty_0 rfl ?_
  refine g_get C0 KJ2 hL.1 2 rfl q123 rfl (by decide) dJ2_isEmpty_1 ?_
  refine g_if_ne (tgt := 11) C0 dJ2_isEmpty_4 (by decide) (fun c_1 => ?_) (fun c_1 => ?_)
  · refine g_iconst (v := 0) C0 dJ2_isEmpty_11 (by decide) ?_
    exact g_zret C0 E0 dJ2_isEmpty_12 rfl (Nat.le_of_ble_eq_true rfl) (Nat.le_of_ble_eq_true rfl) ⟨(if_neg (fun q => c_1 (by rw [q]; rfl))).symm, rfl⟩
  · refine g_iconst (v := 1) C0 dJ2_isEmpty_7 (by decide) ?_
    refine g_goto (tgt := 12) C0 dJ2_isEmpty_8 (by decide) ?_
    exact g_zret C0 E0 dJ2_isEmpty_12 rfl (Nat.le_of_ble_eq_true rfl) (Nat.le_of_ble_eq_true rfl) ⟨(if_pos (gLs.nil hL c_1)).symm, rfl⟩

theorem m_chk (l : Launch) (V : gV) {h : gH} {j m : Nat} (hj : j < m) (hm : m < 1000000) : MX l V yJ14_checkIndex cJ14_checkIndex 3 (some .int) 0 0 0 0 [.int (nI j), .int (nI m), .null] h (pI (fun v h' => v = nI j ∧ h' = h) xN) := by
  refine MX.of (lv0 := [(0, .int (nI j)), (1, .int (nI m)), (2, .null)]) (by decide +kernel) rfl (Nat.le_of_ble_eq_true rfl) ?_
  intro Γ C0 E0 T0 N0
  have C0 : gC_ Γ l V "jdk/internal/util/Preconditions" cJ14_checkIndex 3 (some .int) ({ frames := 0, cells := 0, slots := 0, locals := 0 } : Room) := C0
  refine g_iload_n C0 dJ14_checkIndex_0 rfl ?_
  refine g_if_lt (tgt := 9) C0 dJ14_checkIndex_1 (by decide) (fun c_1 => absurd c_1 (nI_pos (by omega))) (fun _ => ?_)
  refine g_iload_n C0 dJ14_checkIndex_4 rfl ?_
  refine g_iload_n C0 dJ14_checkIndex_5 rfl ?_
  refine g_icmp_lt (tgt := 16) C0 dJ14_checkIndex_6 (by decide) (fun _ => ?_) (fun c_2 => absurd (nI_lt hj (by omega)) c_2)
  refine g_iload_n C0 dJ14_checkIndex_16 rfl ?_
  exact g_iret C0 E0 dJ14_checkIndex_17 (Nat.le_of_ble_eq_true rfl) (Nat.le_of_ble_eq_true rfl) ⟨rfl, rfl⟩

theorem m_chk2 (l : Launch) (V : gV) {h : gH} {j m : Nat} (hj : j < m) (hm : m < 1000000) : MX l V yJ13_checkIndex cJ13_checkIndex 2 (some .int) 1 22 0 0 [.int (nI j), .int (nI m)] h (pI (fun v h' => v = nI j ∧ h' = h) xN) := by
  refine MX.of (lv0 := [(0, .int (nI j)), (1, .int (nI m))]) (by decide +kernel) rfl (Nat.le_of_ble_eq_true rfl) ?_
  intro Γ C0 E0 T0 N0
  have C0 : gC_ Γ l V "java/util/Objects" cJ13_checkIndex 2 (some .int) ({ frames := 1, cells := 0, slots := 0, locals := 22 } : Room) := C0
  refine g_iload_n C0 dJ13_checkIndex_0 rfl ?_
  refine g_iload_n C0 dJ13_checkIndex_1 rfl ?_
  refine g_null C0 dJ13_checkIndex_2 ?_
  refine g_callS (As := [.int (nI j), .int (nI m), .null]) (rest := []) (nA := 3) C0 (m_chk l V hj hm) (lw_S q230 q231 q75 q232) (by decide +kernel) rfl ⟨Nat.le_of_ble_eq_true rfl, Nat.le_of_ble_eq_true rfl, (Nat.le_of_ble_eq_true rfl), (Nat.le_of_ble_eq_true rfl)⟩ rfl (Nat.le_of_ble_eq_true rfl) dJ13_checkIndex_3 (kIe ?_) (kN fun _ _ h => h)
  exact g_iret C0 E0 dJ13_checkIndex_6 (Nat.le_of_ble_eq_true rfl) (Nat.le_of_ble_eq_true rfl) ⟨rfl, rfl⟩

theorem m_elt (l : Launch) (V : gV) {h : gH} {a ta ea te cap : Nat} {md : Int32} {gs : List Nat} (hL : gLs V h a ta ea te cap md gs) {j g : Nat} (hj : gs[j]? = some g) : MX l V yJ2_elementData cJ2_elementData 2 (some (.object "java/lang/Object")) 0 0 0 0 [.ref a, .int (nI j)] h (pR (fun v h' => v = g ∧ h' = h) xN) := by
  refine MX.of (lv0 := [(0, .ref a), (1, .int (nI j))]) (by decide +kernel) rfl (Nat.le_of_ble_eq_true rfl) ?_
  intro Γ C0 E0 T0 N0
  have C0 : gC_ Γ l V "java/util/ArrayList" cJ2_elementData 2 (some (.object "java/lang/Object")) ({ frames := 0, cells := 0, slots := 0, locals := 0 } : Room) := C0
  obtain ⟨hc, hj2⟩ := hL.cap hj
  refine g_aload_n C0 dJ2_elementData_0 rfl ?_
  refine g_get C0 KJ2 (hL.elt hc) 1 rfl q120 rfl (by decide) dJ2_elementData_1 ?_
  refine g_iload_n C0 dJ2_elementData_4 rfl ?_
  refine g_aald C0 (hL.2.1 hc) (vp_in_nI (Nat.lt_of_lt_of_le hj2 hL.2.2.1) (by have := hL.2.2.2; omega)) dJ2_elementData_5 ?_
  rw [nI_clamp (by have := hL.lt; omega), hj]
  exact g_aret C0 E0 dJ2_elementData_6 (Or.inl ⟨_, rfl⟩) (Or.inr ⟨_, rfl⟩) (by decide) (by decide) ⟨rfl, rfl⟩

theorem m_get (l : Launch) (V : gV) {h : gH} {a ta ea te cap : Nat} {md : Int32} {gs : List Nat} (hL : gLs V h a ta ea te cap md gs) {j g : Nat} (hj : gs[j]? = some g) : MX l V yJ2_get cJ2_get 2 (some (.object "java/lang/Object")) 2 43 0 0 [.ref a, .int (nI j)] h (pR (fun v h' => v = g ∧ h' = h) xN) := by
  refine MX.of (lv0 := [(0, .ref a), (1, .int (nI j))]) (by decide +kernel) rfl (Nat.le_of_ble_eq_true rfl) ?_
  intro Γ C0 E0 T0 N0
  have C0 : gC_ Γ l V "java/util/ArrayList" cJ2_get 2 (some (.object "java/lang/Object")) ({ frames := 2, cells := 0, slots := 0, locals := 43 } : Room) := C0
  obtain ⟨hc, hj2⟩ := hL.cap hj
  refine g_iload_n C0 dJ2_get_0 rfl ?_
  refine g_aload_n C0 dJ2_get_1 rfl ?_
  refine g_get C0 KJ2 (hL.elt hc) 2 rfl q123 rfl (by decide) dJ2_get_2 ?_
  refine g_callS (As := [.int (nI j), .int (nI gs.length)]) (rest := []) (nA := 2) C0 (m_chk2 l V hj2 hL.lt) (lw_S q227 q228 q74 q229) (by decide +kernel) rfl ⟨Nat.le_of_ble_eq_true rfl, Nat.le_of_ble_eq_true rfl, (Nat.le_of_ble_eq_true rfl), (Nat.le_of_ble_eq_true rfl)⟩ rfl (Nat.le_of_ble_eq_true rfl) dJ2_get_5 (kIe ?_) (kN fun _ _ h => h)
  refine g_pop C0 dJ2_get_8 rfl ?_
  refine g_aload_n C0 dJ2_get_9 rfl ?_
  refine g_iload_n C0 dJ2_get_10 rfl ?_
  refine g_callV (C := "java/util/ArrayList") (As := [.int (nI j)]) (rest := []) (nA := 1) C0 (m_elt l V hL hj) (lw_V q233 q234 q235 q59 q236) (hL.elt hc) rfl rfl (by decide +kernel) rfl ⟨Nat.le_of_ble_eq_true rfl, Nat.le_of_ble_eq_true rfl, (Nat.le_of_ble_eq_true rfl), (Nat.le_of_ble_eq_true rfl)⟩ rfl (Nat.le_of_ble_eq_true rfl) dJ2_get_11 (kRe ?_) (kN fun _ _ h => h)
  exact g_aret C0 E0 dJ2_get_14 (Or.inl ⟨_, rfl⟩) (Or.inr ⟨_, rfl⟩) (Nat.le_of_ble_eq_true rfl) (Nat.le_of_ble_eq_true rfl) ⟨rfl, rfl⟩

theorem gU_u {h : gH} {a : Nat} {x y : gC} : gU (gU h a x) a y = gU h a y := by
  funext q
  unfold gU
  by_cases e : q = a
  · rw [if_pos e, if_pos e]
  · rw [if_neg e, if_neg e, if_neg e]
theorem gU_c {h : gH} {a b : Nat} {x y : gC} (n : a ≠ b) : gU (gU h a x) b y = gU (gU h b y) a x := by
  funext q
  unfold gU
  by_cases e : q = a
  · by_cases e2 : q = b
    · exact absurd (e.symm.trans e2) n
    · rw [if_neg e2, if_pos e, if_pos e]
  · by_cases e2 : q = b
    · rw [if_pos e2, if_neg e, if_pos e2]
    · rw [if_neg e2, if_neg e, if_neg e, if_neg e2]
theorem jmax_nI {a b : Nat} (ha : a < 2 ^ 31) (hb : b < 2 ^ 31) : jmax (nI a) (nI b) = nI (max a b) := by
  unfold jmax
  by_cases h : a < b
  · rw [if_pos (nI_lt h hb), Nat.max_eq_right (by omega)]
  · rw [if_neg (nI_nlt (by omega) ha), Nat.max_eq_left (by omega)]
theorem jmin_nI {a b : Nat} (ha : a < 2 ^ 31) (hb : b < 2 ^ 31) : jmin (nI a) (nI b) = nI (min a b) := by
  unfold jmin
  by_cases h : b < a
  · rw [if_pos (nI_lt h ha), Nat.min_eq_right (by omega)]
  · rw [if_neg (nI_nlt (by omega) hb), Nat.min_eq_left (by omega)]
def gNc (cap : Nat) : Nat := if cap = 0 then 10 else cap + max 1 (cap / 2)
theorem gNc_0 {cap : Nat} (h : cap = 0) : gNc cap = 10 := if_pos h
theorem gNc_s {cap : Nat} (h : cap ≠ 0) : gNc cap = cap + max 1 (cap / 2) := if_neg h
theorem gNc_gt (cap : Nat) : cap < gNc cap := by unfold gNc; split <;> omega
theorem gNc_le (cap : Nat) : gNc cap ≤ 2 * cap + 10 := by unfold gNc; split <;> omega
theorem m_acInit (l : Launch) (V : gV) {h : gH} {a : Nat} : MX l V yJ0_init cJ0_init 1 none 1 12 0 0 [.ref a] h (pV (fun h' => h' = h) xN) := by
  refine MX.of (lv0 := [(0, .ref a)]) (by decide +kernel) rfl (Nat.le_of_ble_eq_true rfl) ?_
  intro Γ C0 E0 T0 N0
  have C0 : gC_ Γ l V "java/util/AbstractCollection" cJ0_init 1 none ({ frames := 1, cells := 0, slots := 0, locals := 12 } : Room) := C0
  refine g_aload_n C0 dJ0_init_0 rfl ?_
  refine g_objInit C0 q117 qOI1 qOI2 dJ0_init_1 (Nat.le_of_ble_eq_true rfl) (Nat.le_of_ble_eq_true rfl) ?_
  exact g_vret C0 E0 dJ0_init_4 (Nat.le_of_ble_eq_true rfl) (Nat.le_of_ble_eq_true rfl) rfl

theorem m_alInit0 (l : Launch) (V : gV) {h : gH} {a ta : Nat} (ha : h a = some (ta, .inr (1, [.int 0, .null, .int 0]))) : MX l V yJ1_init cJ1_init 1 none 2 32 0 0 [.ref a] h (pV (fun h' => h' = gU h a (ta, .inr (1, [.int 0, .null, .int 0]))) xN) := by
  refine MX.of (lv0 := [(0, .ref a)]) (by decide +kernel) rfl (Nat.le_of_ble_eq_true rfl) ?_
  intro Γ C0 E0 T0 N0
  have C0 : gC_ Γ l V "java/util/AbstractList" cJ1_init 1 none ({ frames := 2, cells := 0, slots := 0, locals := 32 } : Room) := C0
  refine g_aload_n C0 dJ1_init_0 rfl ?_
  refine g_callI (As := []) (rest := []) (nA := 0) C0 (m_acInit (a := a) l V) q116 q57 q114 q115 rfl (by decide +kernel) rfl ⟨Nat.le_of_ble_eq_true rfl, Nat.le_of_ble_eq_true rfl, (Nat.le_of_ble_eq_true rfl), (Nat.le_of_ble_eq_true rfl)⟩ rfl (Nat.le_of_ble_eq_true rfl) dJ1_init_1 (kVe ?_) (kN fun _ _ h => h)
  refine g_aload_n C0 dJ1_init_4 rfl ?_
  refine g_iconst (v := 0) C0 dJ1_init_5 (by decide) ?_
  refine g_put (fs' := [.int 0, .null, .int 0]) C0 KJ2 ha 0 rfl q124 rfl (by decide) rfl rfl rfl (Nat.le_of_ble_eq_true rfl) dJ1_init_6 ?_
  have hc_1 := gU_s (h := h) (a := a) (x := (ta, .inr (1, [.int 0, .null, .int 0])))
  exact g_vret C0 E0 dJ1_init_9 (Nat.le_of_ble_eq_true rfl) (Nat.le_of_ble_eq_true rfl) rfl

theorem m_alInit (l : Launch) (V : gV) {h : gH} {a ta : Nat} (ha : h a = some (ta, .inr (1, [.int 0, .null, .int 0]))) : MX l V yJ2_init cJ2_init 1 none 3 52 0 0 [.ref a] h (pV (fun h' => h' = gU h a (ta, .inr (1, [.int 0, .ref (gX V 0), .int 0]))) xN) := by
  refine MX.of (lv0 := [(0, .ref a)]) (by decide +kernel) rfl (Nat.le_of_ble_eq_true rfl) ?_
  intro Γ C0 E0 T0 N0
  have C0 : gC_ Γ l V "java/util/ArrayList" cJ2_init 1 none ({ frames := 3, cells := 0, slots := 0, locals := 52 } : Room) := C0
  refine g_aload_n C0 dJ2_init_0 rfl ?_
  refine g_callI (As := []) (rest := []) (nA := 0) C0 (m_alInit0 l V ha) q113 q58 q111 q112 rfl (by decide +kernel) rfl ⟨Nat.le_of_ble_eq_true rfl, Nat.le_of_ble_eq_true rfl, (Nat.le_of_ble_eq_true rfl), (Nat.le_of_ble_eq_true rfl)⟩ rfl (Nat.le_of_ble_eq_true rfl) dJ2_init_1 (kVe ?_) (kN fun _ _ h => h)
  refine g_aload_n C0 dJ2_init_4 rfl ?_
  refine g_gets (C := "java/util/ArrayList") (nm := "DEFAULTCAPACITY_EMPTY_ELEMENTDATA") (ds := "[Ljava/lang/Object;") (v := .ref (gX V 0)) C0 C0.2.2.2.2.1.2.1.1 q118 rfl dJ2_init_5 ?_
  refine g_put (fs' := [.int 0, .ref (gX V 0), .int 0]) C0 KJ2 gU_s 1 rfl q120 rfl (by decide) rfl rfl rfl (Nat.le_of_ble_eq_true rfl) dJ2_init_8 ?_
  have hc_1 := gU_s (h := (gU h a (ta, .inr (1, [.int 0, .null, .int 0])))) (a := a) (x := (ta, .inr (1, [.int 0, .ref (gX V 0), .int 0])))
  exact g_vret C0 E0 dJ2_init_11 (Nat.le_of_ble_eq_true rfl) (Nat.le_of_ble_eq_true rfl) gU_u

theorem m_newLength (l : Launch) (V : gV) {h : gH} {cap : Nat} (hc : cap ≠ 0) (hm : cap < 1000000) : MX l V yJ7_newLength cJ7_newLength 4 (some .int) 1 14 0 0 [.int (nI cap), .int (nI 1), .int (nI (cap / 2))] h (pI (fun v h' => v = nI (cap + max 1 (cap / 2)) ∧ h' = h) xN) := by
  refine MX.of (lv0 := [(0, .int (nI cap)), (1, .int (nI 1)), (2, .int (nI (cap / 2)))]) (by decide +kernel) rfl (Nat.le_of_ble_eq_true rfl) ?_
  intro Γ C0 E0 T0 N0
  have C0 : gC_ Γ l V "jdk/internal/util/ArraysSupport" cJ7_newLength 4 (some .int) ({ frames := 1, cells := 0, slots := 0, locals := 14 } : Room) := C0
  refine g_iload_n C0 dJ7_newLength_0 rfl ?_
  refine g_iload_n C0 dJ7_newLength_1 rfl ?_
  refine g_iload_n C0 dJ7_newLength_2 rfl ?_
  refine g_mmax (v := jmax (nI 1) (nI (cap / 2))) C0 q550 qMX1 q67 qMX2 (Nat.le_of_ble_eq_true rfl) (Nat.le_of_ble_eq_true rfl) (Nat.le_of_ble_eq_true rfl) (Nat.le_of_ble_eq_true rfl) dJ7_newLength_3 rfl ?_
  refine g_i (y := nI (max 1 (cap / 2))) (jmax_nI (by omega) (by omega)) ?_
  refine g_iadd C0 dJ7_newLength_6 ?_
  refine g_i (y := nI (cap + max 1 (cap / 2))) (nI_add _ _) ?_
  refine g_istore_n (lv' := [(3, .int (nI (cap + max 1 (cap / 2)))), (0, .int (nI cap)), (1, .int (nI 1)), (2, .int (nI (cap / 2)))]) C0 dJ7_newLength_7 (by decide) rfl ?_
  refine g_iconst (v := 0) C0 dJ7_newLength_8 (by decide) ?_
  refine g_iload_n C0 dJ7_newLength_9 rfl ?_
  refine g_icmp_ge (tgt := 21) C0 dJ7_newLength_10 (by decide) (fun c_1 => absurd c_1 (by rw [← nI_0]; exact fun q => absurd q (by rw [Int32.not_le]; exact nI_lt (by omega) (by omega)))) (fun _ => ?_)
  refine g_iload_n C0 dJ7_newLength_13 rfl ?_
  refine g_ldc (v := 2147483639) C0 q551 dJ7_newLength_14 ?_
  refine g_icmp_gt (tgt := 21) C0 dJ7_newLength_16 (by decide) (fun c_2 => absurd c_2 (by rw [show (2147483639 : Int32) = nI 2147483639 from by decide +kernel]; exact nI_nlt (by omega) (by omega))) (fun _ => ?_)
  refine g_iload_n C0 dJ7_newLength_19 rfl ?_
  exact g_iret C0 E0 dJ7_newLength_20 (Nat.le_of_ble_eq_true rfl) (Nat.le_of_ble_eq_true rfl) ⟨rfl, rfl⟩

theorem qIO : Cond.castable "java/lang/Integer" "java/lang/Object" ∈ lw_tbl := q2064
theorem gOb.new {V : gV} {h : gH} {q y : Nat} {z : gC} (hy : gOb V h y) (hq : h q = none) : gOb V (gU h q z) y := by
  rcases hy with ⟨t, ci, fs, r, h1, h2, h3⟩ | hy
  · exact Or.inl ⟨t, ci, fs, r, gU_f h1 hq, h2, h3⟩
  · exact Or.inr hy
theorem gOb.put {V : gV} {h : gH} {a t : Nat} {x z : va_E} {y : Nat} (hy : gOb V h y) (ha : h a = some (t, x)) (hz : ∀ (ci : Nat) (fs : List Value), x = .inr (ci, fs) → ∃ fs', z = .inr (ci, fs')) : gOb V (gU h a (t, z)) y := by
  rcases hy with ⟨t', ci, fs, r, h1, h2, h3⟩ | hy
  · by_cases e : y = a
    · subst e
      rw [ha] at h1
      cases h1
      obtain ⟨fs', hf⟩ := hz ci fs rfl
      exact Or.inl ⟨t, ci, fs', r, by rw [gU_s, hf], h2, h3⟩
    · exact Or.inl ⟨t', ci, fs, r, by rw [gU_n e]; exact h1, h2, h3⟩
  · exact Or.inr hy
theorem m_copyOf2 (l : Launch) (V : gV) {h : gH} {ea te m cap : Nat} {f : Nat → Option Nat} (he : h ea = some (te, .inl (gK V 1, cap, .inr (.inr (.inr (.inr f)))))) (hm : cap ≤ m) (hm2 : m < 3000000) (hob : ∀ j y : Nat, f j = some y → gOb V h y) : MX l V yJ9_copyOf_2 cJ9_copyOf_2 4 (some (.array (.object "java/lang/Object"))) 1 30 1 m [.ref ea, .int (nI m), .ref (gX V 11)] h (pR (fun q h' => h q = none ∧ h' = gU h q (te, .inl (gK V 1, m, .inr (.inr (.inr (.inr (fun j => if j < cap then f j else none))))))) xN) := by
  refine MX.of (lv0 := [(0, .ref ea), (1, .int (nI m)), (2, .ref (gX V 11))]) (by decide +kernel) rfl (Nat.le_of_ble_eq_true rfl) ?_
  intro Γ C0 E0 T0 N0
  have C0 : gC_ Γ l V "java/util/Arrays" cJ9_copyOf_2 4 (some (.array (.object "java/lang/Object"))) ({ frames := 1, cells := 1, slots := m, locals := 30 } : Room) := C0
  refine g_aload_n C0 dJ9_copyOf_2_0 rfl ?_
  refine g_ldcM C0 q592 dJ9_copyOf_2_1 ?_
  refine g_rcmp_ne (tgt := 13) C0 dJ9_copyOf_2_3 (by decide) (fun c_1 => absurd rfl c_1) (fun _ => ?_)
  refine g_iload_n C0 dJ9_copyOf_2_6 rfl ?_
  refine g_newq (m := m) C0 te q594 (nI_pos (by omega)) (nI_clamp (by omega)) (by omega) (show 0 + 1 ≤ 1 from by omega) (show 0 + m ≤ m from by omega) dJ9_copyOf_2_7 (fun a_1 hf_1 => ?_)
  have he1 := gU_f he hf_1 (z := (te, .inl (gK V 1, m, .inr (.inr (.inr (.inr (fun _ => none)))))))
  refine g_goto (tgt := 24) C0 dJ9_copyOf_2_10 (by decide) ?_
  refine g_astore_n (lv' := [(3, .ref a_1), (0, .ref ea), (1, .int (nI m)), (2, .ref (gX V 11))]) C0 dJ9_copyOf_2_24 (by decide) rfl ?_
  refine g_aload_n C0 dJ9_copyOf_2_25 rfl ?_
  refine g_iconst (v := 0) C0 dJ9_copyOf_2_26 (by decide) ?_
  refine g_aload_n C0 dJ9_copyOf_2_27 rfl ?_
  refine g_iconst (v := 0) C0 dJ9_copyOf_2_28 (by decide) ?_
  refine g_aload_n C0 dJ9_copyOf_2_29 rfl ?_
  refine g_alen (j := 1) C0 he1 rfl rfl dJ9_copyOf_2_30 ?_
  refine g_iload_n C0 dJ9_copyOf_2_31 rfl ?_
  refine g_mmin (v := jmin (Int32.ofNat cap) (nI m)) C0 q595 qMN1 q67 qMN2 (Nat.le_of_ble_eq_true rfl) (Nat.le_of_ble_eq_true rfl) (Nat.le_of_ble_eq_true rfl) (show 0 + m ≤ m from by omega) dJ9_copyOf_2_32 rfl ?_
  refine g_i (y := nI cap) ((jmin_nI (by omega) (by omega)).trans (by rw [Nat.min_eq_left hm])) ?_
  refine g_copyq (st := []) (g' := fun j => if j < cap then f j else none) C0 q596 q598 q597 q69 qIO he1 gU_s (by decide) (by decide) (nI_pos (by omega)) (by rw [nI_clamp (by omega)]; show 0 + cap ≤ cap; omega) (by rw [nI_clamp (by omega)]; show 0 + cap ≤ m; omega) (fun j y hy => (hob j y hy).new hf_1) (Nat.le_of_ble_eq_true rfl) (Nat.le_of_ble_eq_true rfl) dJ9_copyOf_2_35 ?_ ?_
  · rw [nI_clamp (by omega)]; funext j; show (if 0 ≤ j ∧ j < 0 + cap then f (0 + (j - 0)) else none) = _; by_cases e : j < cap <;> simp [e]
  rw [gU_u]
  refine g_aload_n C0 dJ9_copyOf_2_38 rfl ?_
  exact g_aret C0 E0 dJ9_copyOf_2_39 (Or.inr ⟨_, rfl⟩) (Or.inr ⟨_, rfl⟩) (Nat.le_of_ble_eq_true rfl) (show 0 + m ≤ m from by omega) ⟨hf_1, rfl⟩

theorem m_copyOf (l : Launch) (V : gV) {h : gH} {ea te m cap : Nat} {f : Nat → Option Nat} (he : h ea = some (te, .inl (gK V 1, cap, .inr (.inr (.inr (.inr f)))))) (hm : cap ≤ m) (hm2 : m < 3000000) (hob : ∀ j y : Nat, f j = some y → gOb V h y) : MX l V yJ9_copyOf cJ9_copyOf 2 (some (.array (.object "java/lang/Object"))) 2 53 1 m [.ref ea, .int (nI m)] h (pR (fun q h' => h q = none ∧ h' = gU h q (te, .inl (gK V 1, m, .inr (.inr (.inr (.inr (fun j => if j < cap then f j else none))))))) xN) := by
  refine MX.of (lv0 := [(0, .ref ea), (1, .int (nI m))]) (by decide +kernel) rfl (Nat.le_of_ble_eq_true rfl) ?_
  intro Γ C0 E0 T0 N0
  have C0 : gC_ Γ l V "java/util/Arrays" cJ9_copyOf 2 (some (.array (.object "java/lang/Object"))) ({ frames := 2, cells := 1, slots := m, locals := 53 } : Room) := C0
  refine g_aload_n C0 dJ9_copyOf_0 rfl ?_
  refine g_iload_n C0 dJ9_copyOf_1 rfl ?_
  refine g_aload_n C0 dJ9_copyOf_2 rfl ?_
  refine g_getC C0 he q558 q2078 q559 q588 (Nat.le_of_ble_eq_true rfl) (Nat.le_of_ble_eq_true rfl) dJ9_copyOf_3 ?_
  refine g_callS (As := [.ref ea, .int (nI m), .ref (gX V 11)]) (rest := []) (nA := 3) C0 (m_copyOf2 l V he hm hm2 hob) (lw_S q589 q590 q68 q591) (by decide +kernel) rfl ⟨Nat.le_of_ble_eq_true rfl, Nat.le_of_ble_eq_true rfl, (Nat.le_of_ble_eq_true rfl), (show 0 + m ≤ m from by omega)⟩ rfl (Nat.le_of_ble_eq_true rfl) dJ9_copyOf_6 (kR fun r_1 h_1 hp => ?_) (kN fun _ _ h => h)
  exact g_aret C0 E0 dJ9_copyOf_9 (Or.inr ⟨_, rfl⟩) (Or.inr ⟨_, rfl⟩) (Nat.le_of_ble_eq_true rfl) (show 0 + m ≤ m from by omega) hp

end JDK
