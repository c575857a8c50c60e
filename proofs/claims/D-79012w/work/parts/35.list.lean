/-! ArrayList -/
set_option maxRecDepth 100000
theorem nwX1 : ∀ j, j < 5 → defaultValue (tyX1 j) = vp_V [.null, .null, .null, .int 0, .null] j := by decide +kernel
theorem nwX2 : ∀ j, j < 5 → defaultValue (tyX2 j) = vp_V [.null, .null, .null, .null, .int 0] j := by decide +kernel
theorem nwX3 : ∀ j, j < 22 → defaultValue (tyX3 j) = vp_V [.int 0, .null, .null, .int 0, .null, .null, .int 0, .int 0, .null, .null, .int 0, .null, .null, .int 0, .null, .int 0, .int 0, .int 0, .int 0, .int 0, .int 0, .int 0] j := by decide +kernel
theorem nwX5 : ∀ j, j < 5 → defaultValue (tyX5 j) = vp_V [.int 0, .int 0, .null, .null, .null] j := by decide +kernel
theorem nwX6 : ∀ j, j < 3 → defaultValue (tyX6 j) = vp_V [.int 0, .int 0, .int 0] j := by decide +kernel
theorem nwJ1 : ∀ j, j < 3 → defaultValue (tyJ1 j) = vp_V [.null, .int 0, .int 0] j := by decide +kernel
theorem nwJ4 : ∀ j, j < 4 → defaultValue (tyJ4 j) = vp_V [.null, .int 0, .int 0, .int 0] j := by decide +kernel
theorem nwJ5 : ∀ j, j < 4 → defaultValue (tyJ5 j) = vp_V [.null, .int 0, .int 0, .int 0] j := by decide +kernel
theorem nwJ17 : ∀ j, j < 1 → defaultValue (tyJ17 j) = vp_V [.int 0] j := by decide +kernel
theorem nwJ21 : ∀ j, j < 3 → defaultValue (tyJ21 j) = vp_V [.int 0, .null, .int 0] j := by decide +kernel
theorem nwJ31 : ∀ j, j < 4 → defaultValue (tyJ31 j) = vp_V [.int 0, .int 0, .int 0, .null] j := by decide +kernel
theorem nwX11 : ∀ j, j < 1 → defaultValue (tyX11 j) = vp_V [.null] j := by decide +kernel
theorem nwX13 : ∀ j, j < 1 → defaultValue (tyX13 j) = vp_V [.null] j := by decide +kernel
theorem nwX14 : ∀ j, j < 1 → defaultValue (tyX14 j) = vp_V [.null] j := by decide +kernel
theorem nwX16 : ∀ j, j < 2 → defaultValue (tyX16 j) = vp_V [.null, .int 0] j := by decide +kernel
theorem nwX17 : ∀ j, j < 7 → defaultValue (tyX17 j) = vp_V [.null, .null, .null, .null, .null, .int 0, .int 0] j := by decide +kernel
theorem nwX18 : ∀ j, j < 2 → defaultValue (tyX18 j) = vp_V [.int 0, .null] j := by decide +kernel
theorem nwX19 : ∀ j, j < 1 → defaultValue (tyX19 j) = vp_V [.int 0] j := by decide +kernel
theorem nwX20 : ∀ j, j < 1 → defaultValue (tyX20 j) = vp_V [.null] j := by decide +kernel
theorem nwX21 : ∀ j, j < 1 → defaultValue (tyX21 j) = vp_V [.null] j := by decide +kernel
theorem nwX22 : ∀ j, j < 1 → defaultValue (tyX22 j) = vp_V [.null] j := by decide +kernel
theorem nwX8 : ∀ j, j < 8 → defaultValue (tyX8 j) = vp_V [.int 0, .int 0, .null, .null, .null, .null, .null, .int 0] j := by decide +kernel
theorem nwX9 : ∀ j, j < 8 → defaultValue (tyX9 j) = vp_V [.int 0, .int 0, .null, .null, .null, .null, .null, .int 0] j := by decide +kernel
theorem nwX15 : ∀ j, j < 8 → defaultValue (tyX15 j) = vp_V [.int 0, .int 0, .null, .null, .null, .null, .null, .int 0] j := by decide +kernel
theorem V.hE {E : GE} {cc : ByteArray} {own : String} {M : GM} {Po : Option Value → AH → Prop} {Px : String → Nat → AH → Prop} {X : GX} {h : AH} {k n pc : Nat} {ls : List (Option Value)} {st : List Value} (kk : gE E → V E cc own M Po Px X h k n pc ls st) : V E cc own M Po Px X h k n pc ls st := fun O => kk O.hE O
/-- the empty array of the class ArrayList -/
def tmE : Term := .static "java/util/ArrayList" "DEFAULTCAPACITY_EMPTY_ELEMENTDATA" "[Ljava/lang/Object;"
def eE (E : GE) : Nat := stA E tmE
theorem gE.e0 {E : GE} (hE : gE E) : gTb E (.object "java/lang/Object") (eE E) 0 (fun _ => .null) := (hE.tb (tm := tmE) (by decide) (show _ ∈ flatC _ by decide +kernel) (show _ ∈ flatC _ by decide +kernel) (fun j hj => absurd hj (Nat.not_lt_zero j))).2
theorem gE.eZ {E : GE} (hE : gE E) : va_Z "java/util/ArrayList" "DEFAULTCAPACITY_EMPTY_ELEMENTDATA" "[Ljava/lang/Object;" (.ref (eE E)) (gA E) E.S0 E.S0.heap := hE.zR (hE.ex (t := tmE) (C := "[Ljava/lang/Object;") (show _ ∈ flatC _ by decide +kernel)).1 q974 (List.mem_filter.mp q92).1
theorem gE.mO {E : GE} (hE : gE E) : ∃ mi, gMi E "[Ljava/lang/Object;" mi := hE.mi (show _ ∈ flatC _ by decide +kernel)
/-- how many places a list of n has -/
def lcp (n : Nat) : Nat := if n ≤ 10 then 10 else if n ≤ 15 then 15 else if n ≤ 22 then 22 else 33
/-- a list at l (tag t, its array's t + 1) of the objects L -/
def LI (E : GE) (t : Nat) (h : AH) (l : Nat) (L : List Nat) : Prop := L.length ≤ 32 ∧ ∃ arr mc, h l = some (t, gO 9 [.int mc, .ref arr, .int (nI L.length)]) ∧ ((L = [] ∧ arr = eE E) ∨ (L ≠ [] ∧ ∃ f, h arr = some (t + 1, gAR E 5 (lcp L.length) f) ∧ ∀ i, i < L.length → f i = L[i]?))
theorem LI.fr {E : GE} {t : Nat} {h h' : AH} {l : Nat} {L : List Nat} {P : Nat → Prop} (hl : LI E t h l L) (hf : Fr P h h') (h1 : ¬ P t) (h2 : ¬ P (t + 1)) : LI E t h' l L := by
  obtain ⟨h0, arr, mc, a1, a2⟩ := hl
  refine ⟨h0, arr, mc, hf _ _ _ a1 h1, ?_⟩
  rcases a2 with a2 | ⟨a2, f, a3, a4⟩
  · exact Or.inl a2
  · exact Or.inr ⟨a2, f, hf _ _ _ a3 h2, a4⟩
theorem LI.at {E : GE} {t : Nat} {h : AH} {l : Nat} {L : List Nat} (hl : LI E t h l L) : ∃ fs, h l = some (t, gO 9 fs) := ⟨_, hl.2.choose_spec.choose_spec.1⟩
theorem LI.rv {E : GE} {t : Nat} {h : AH} {l : Nat} {L : List Nat} (hl : LI E t h l L) : gRv E h l "java/util/ArrayList" := by
  obtain ⟨fs, z⟩ := hl.at
  exact gRv.g z rfl rfl
theorem Fr.put2 {P : Nat → Prop} {h h1 : AH} {a t : Nat} {z : Nat × va_E} {e : va_E} (hf : Fr P h h1) (ha : h1 a = some (t, e)) (hp : P t) (hz : z.1 = t) : Fr P h (g_up h1 a z) := by
  obtain ⟨z1, z2⟩ := z
  subst hz
  exact hf.tr (Fr.put ha hp)
theorem Fr.new2 {P : Nat → Prop} {h h1 : AH} {a : Nat} {z : Nat × va_E} (hf : Fr P h h1) (ha : h1 a = none) : Fr P h (g_up h1 a z) := hf.tr (Fr.new ha)
/-- places of a list that is full -/
theorem lcp_full {n : Nat} (hn : n ≤ 31) (h : n = lcp n) : (n = 10 ∨ n = 15 ∨ n = 22) := by
  unfold lcp at h
  split at h <;> (try split at h) <;> (try split at h) <;> omega
abbrev mJ0_init : GM := (yJ0_init, 1, none, [], { frames := 1, cells := 0, slots := 0, locals := 20 }, 255)
theorem kJ0_init : gCi cJ0_init mJ0_init 0 := ⟨q145, q69, q146, ⟨by decide +kernel, by decide +kernel, by decide +kernel⟩, rfl, rfl, rfl⟩
set_option maxHeartbeats 400000 in
theorem ctJ0_init {E : GE} {h : AH} (a : Nat)  : Ct E cJ0_init mJ0_init [.ref a] (h) (pV fun h' => h' = h) (noX) := by
  refine g_enter (own := "java/util/AbstractCollection") [some (.ref a)] (by decide +kernel) rfl rfl (Nat.le_of_ble_eq_true rfl) rfl rfl (fun X => ?_)
  first | refine g_aload0 dJ0_init_0 ?_ | refine g_aloadQ0 dJ0_init_0 ?_ | refine g_aloadN0 dJ0_init_0 ?_
  refine g_objInit q147 q129 q130 dJ0_init_1 (Nat.le_of_ble_eq_true rfl) (Nat.le_of_ble_eq_true rfl) ?_
  exact g_vret dJ0_init_4 rfl ⟨rfl, rfl⟩
abbrev mJ20_init : GM := (yJ20_init, 1, none, [], { frames := 2, cells := 0, slots := 0, locals := 40 }, 255)
theorem kJ20_init : gCi cJ20_init mJ20_init 0 := ⟨q970, q91, q971, ⟨by decide +kernel, by decide +kernel, by decide +kernel⟩, rfl, rfl, rfl⟩
set_option maxHeartbeats 400000 in
theorem ctJ20_init {E : GE} {h : AH} {t : Nat} {mc : Int32} {x y : Value} (a : Nat) (ha : h a = some (t, gO 9 [.int mc, x, y])) : Ct E cJ20_init mJ20_init [.ref a] (h) (pV fun h' => h' = g_up h a (t, gO 9 [.int 0, x, y])) (noX) := by
  refine g_enter (own := "java/util/AbstractList") [some (.ref a)] (by decide +kernel) rfl rfl (Nat.le_of_ble_eq_true rfl) rfl rfl (fun X => ?_)
  first | refine g_aload0 dJ20_init_0 ?_ | refine g_aloadQ0 dJ20_init_0 ?_ | refine g_aloadN0 dJ20_init_0 ?_
  refine g_callI (ctJ0_init _) kJ0_init q972 (by decide) ⟨Nat.le_of_ble_eq_true rfl, Nat.le_of_ble_eq_true rfl⟩ rfl (Nat.le_of_ble_eq_true rfl) dJ20_init_1 k_x (k_v (fun h_1 p_1 => ?_))
  subst p_1
  first | refine g_aload0 dJ20_init_4 ?_ | refine g_aloadQ0 dJ20_init_4 ?_ | refine g_aloadN0 dJ20_init_4 ?_
  refine g_iconst (nI 0) dJ20_init_5 (by decide) ?_
  refine g_put (k0 := 0) (by first | assumption | exact g_up_self _ _ _ | (refine g_upf ?_ ?_ <;> assumption) | (refine g_upt ?_ ?_ (by decide) <;> assumption)) in_J21 q977 tyJ21_ok nmJ21 rfl (by decide) rfl (by rfl) (by rfl) (Nat.le_of_ble_eq_true rfl) dJ20_init_6 ?_
  exact g_vret dJ20_init_9 rfl ⟨rfl, rfl⟩
abbrev mJ21_init : GM := (yJ21_init, 1, none, [], { frames := 3, cells := 0, slots := 0, locals := 60 }, 255)
theorem kJ21_init : gCi cJ21_init mJ21_init 0 := ⟨q967, q92, q968, ⟨by decide +kernel, by decide +kernel, by decide +kernel⟩, rfl, rfl, rfl⟩
set_option maxHeartbeats 400000 in
theorem ctJ21_init {E : GE} {h : AH} {t : Nat} (a : Nat) (ha : h a = some (t, gO 9 [.int 0, .null, .int 0])) : Ct E cJ21_init mJ21_init [.ref a] (h) (pV fun h' => h' = g_up h a (t, gO 9 [.int 0, .ref (eE E), .int 0])) (noX) := by
  refine g_enter (own := "java/util/ArrayList") [some (.ref a)] (by decide +kernel) rfl rfl (Nat.le_of_ble_eq_true rfl) rfl rfl (fun X => ?_)
  first | refine g_aload0 dJ21_init_0 ?_ | refine g_aloadQ0 dJ21_init_0 ?_ | refine g_aloadN0 dJ21_init_0 ?_
  refine g_callI (ctJ20_init _ (by first | assumption | exact g_up_self _ _ _ | (refine g_upf ?_ ?_ <;> assumption) | (refine g_upt ?_ ?_ (by decide) <;> assumption))) kJ20_init q969 (by decide) ⟨Nat.le_of_ble_eq_true rfl, Nat.le_of_ble_eq_true rfl⟩ rfl (Nat.le_of_ble_eq_true rfl) dJ21_init_1 k_x (k_v (fun h_1 p_1 => ?_))
  subst p_1
  first | refine g_aload0 dJ21_init_4 ?_ | refine g_aloadQ0 dJ21_init_4 ?_ | refine g_aloadN0 dJ21_init_4 ?_
  refine V.hE (fun hE => ?_)
  refine g_gets (ref := "java/util/ArrayList") hE.eZ q973 dJ21_init_5 ?_
  refine g_put (k0 := 1) (by first | assumption | exact g_up_self _ _ _ | (refine g_upf ?_ ?_ <;> assumption) | (refine g_upt ?_ ?_ (by decide) <;> assumption)) in_J21 q975 tyJ21_ok nmJ21 rfl (by decide) rfl (by rfl) (by rfl) (Nat.le_of_ble_eq_true rfl) dJ21_init_8 ?_
  try rw [g_upup]
  exact g_vret dJ21_init_11 rfl ⟨rfl, rfl⟩
theorem LI.nil {E : GE} {h : AH} {a t : Nat} : LI E t (g_up h a (t, gO 9 [.int 0, .ref (eE E), .int 0])) a [] := ⟨by decide, eE E, 0, g_up_self _ _ _, Or.inl ⟨rfl, rfl⟩⟩
abbrev mJ21_size : GM := (yJ21_size, 1, (some .int), [], { frames := 0, cells := 0, slots := 0, locals := 0 }, 255)
theorem uJ21_size : gCu cJ21_size mJ21_size 0 := ⟨q1022, q92, q1024, ⟨by decide +kernel, by decide +kernel, by decide +kernel⟩, rfl⟩
set_option maxHeartbeats 400000 in
theorem ctJ21_size {E : GE} {h : AH} {t : Nat} {L : List Nat} (l : Nat) (hl : LI E t h l L) : Ct E cJ21_size mJ21_size [.ref l] (h) (pN fun r h' => r = (L.length) ∧ h' = h) (noX) := by
  refine g_enter (own := "java/util/ArrayList") [some (.ref l)] (by decide +kernel) rfl rfl (Nat.le_of_ble_eq_true rfl) rfl rfl (fun X => ?_)
  obtain ⟨h0, arr, mc, a1, a2⟩ := hl
  first | refine g_aload0 dJ21_size_0 ?_ | refine g_aloadQ0 dJ21_size_0 ?_ | refine g_aloadN0 dJ21_size_0 ?_
  refine g_get (k0 := 2) (by first | assumption | exact g_up_self _ _ _ | (refine g_upf ?_ ?_ <;> assumption) | (refine g_upt ?_ ?_ (by decide) <;> assumption)) in_J21 q976 rfl (by decide) rfl dJ21_size_1 ?_
  exact g_iret dJ21_size_4 rfl ⟨_, rfl, rfl, rfl⟩
abbrev mJ14_checkIndex : GM := (yJ14_checkIndex, 3, (some .int), [], { frames := 0, cells := 0, slots := 0, locals := 0 }, 255)
theorem kJ14_checkIndex : gCs cJ14_checkIndex mJ14_checkIndex 3 := ⟨q1225, q84, q1226, ⟨by decide +kernel, by decide +kernel, by decide +kernel⟩, rfl⟩
set_option maxHeartbeats 400000 in
theorem ctJ14_checkIndexN {E : GE} {h : AH} (i n : Nat)  (hi : i < n) (hn : n < 2147483648) : Ct E cJ14_checkIndex mJ14_checkIndex [.int (nI i), .int (nI n), .null] (h) (pN fun r h' => r = (i) ∧ h' = h) (noX) := by
  refine g_enter (own := "jdk/internal/util/Preconditions") [some (.int (nI i)), some (.int (nI n)), some (.null)] (by decide +kernel) rfl rfl (Nat.le_of_ble_eq_true rfl) rfl rfl (fun X => ?_)
  refine g_iload0 dJ14_checkIndex_0 ?_
  first | refine g_ifN_lt (tgt := 9) dJ14_checkIndex_1 (by decide) (by omega) (fun c_1 => ?_) (fun c_1 => ?_) | refine g_if_lt (tgt := 9) dJ14_checkIndex_1 (by decide) (fun c_1 => ?_) (fun c_1 => ?_)
  · omega
  · refine g_iload0 dJ14_checkIndex_4 ?_
    refine g_iload1 dJ14_checkIndex_5 ?_
    first | refine g_icmpN_lt (tgt := 16) dJ14_checkIndex_6 (by decide) (by omega) (by omega) (fun c_6 => ?_) (fun c_6 => ?_) | refine g_icmp_lt (tgt := 16) dJ14_checkIndex_6 (by decide) (fun c_6 => ?_) (fun c_6 => ?_)
    · refine g_iload0 dJ14_checkIndex_16 ?_
      exact g_iret dJ14_checkIndex_17 rfl ⟨_, rfl, rfl, rfl⟩
    · omega
set_option maxHeartbeats 400000 in
theorem ctJ14_checkIndexR {E : GE} {h : AH} (i n : Nat) (a : Nat) (hi : i < n) (hn : n < 2147483648) : Ct E cJ14_checkIndex mJ14_checkIndex [.int (nI i), .int (nI n), .ref a] (h) (pN fun r h' => r = (i) ∧ h' = h) (noX) := by
  refine g_enter (own := "jdk/internal/util/Preconditions") [some (.int (nI i)), some (.int (nI n)), some (.ref a)] (by decide +kernel) rfl rfl (Nat.le_of_ble_eq_true rfl) rfl rfl (fun X => ?_)
  refine g_iload0 dJ14_checkIndex_0 ?_
  first | refine g_ifN_lt (tgt := 9) dJ14_checkIndex_1 (by decide) (by omega) (fun c_1 => ?_) (fun c_1 => ?_) | refine g_if_lt (tgt := 9) dJ14_checkIndex_1 (by decide) (fun c_1 => ?_) (fun c_1 => ?_)
  · omega
  · refine g_iload0 dJ14_checkIndex_4 ?_
    refine g_iload1 dJ14_checkIndex_5 ?_
    first | refine g_icmpN_lt (tgt := 16) dJ14_checkIndex_6 (by decide) (by omega) (by omega) (fun c_6 => ?_) (fun c_6 => ?_) | refine g_icmp_lt (tgt := 16) dJ14_checkIndex_6 (by decide) (fun c_6 => ?_) (fun c_6 => ?_)
    · refine g_iload0 dJ14_checkIndex_16 ?_
      exact g_iret dJ14_checkIndex_17 rfl ⟨_, rfl, rfl, rfl⟩
    · omega
theorem ctJ14_checkIndex {E : GE} {h : AH} (i n : Nat) (o : Option Nat) (hi : i < n) (hn : n < 2147483648) : Ct E cJ14_checkIndex mJ14_checkIndex [.int (nI i), .int (nI n), va_rf o] h (pN fun r h' => r = i ∧ h' = h) noX := by
  cases o with
  | none => exact ctJ14_checkIndexN i n hi hn
  | some a => exact ctJ14_checkIndexR i n a hi hn
abbrev mJ26_checkIndex : GM := (yJ26_checkIndex, 2, (some .int), [], { frames := 1, cells := 0, slots := 0, locals := 22 }, 255)
theorem kJ26_checkIndex : gCs cJ26_checkIndex mJ26_checkIndex 2 := ⟨q1222, q101, q1223, ⟨by decide +kernel, by decide +kernel, by decide +kernel⟩, rfl⟩
set_option maxHeartbeats 400000 in
theorem ctJ26_checkIndex {E : GE} {h : AH} (i n : Nat) (hi : i < n) (hn : n < 2147483648) : Ct E cJ26_checkIndex mJ26_checkIndex [.int (nI i), .int (nI n)] (h) (pN fun r h' => r = (i) ∧ h' = h) (noX) := by
  refine g_enter (own := "java/util/Objects") [some (.int (nI i)), some (.int (nI n))] (by decide +kernel) rfl rfl (Nat.le_of_ble_eq_true rfl) rfl rfl (fun X => ?_)
  refine g_iload0 dJ26_checkIndex_0 ?_
  refine g_iload1 dJ26_checkIndex_1 ?_
  refine g_null dJ26_checkIndex_2 ?_
  refine g_callS (ctJ14_checkIndex _ _ none (by omega) (by omega)) kJ14_checkIndex q1224 (by decide) ⟨Nat.le_of_ble_eq_true rfl, Nat.le_of_ble_eq_true rfl⟩ rfl (Nat.le_of_ble_eq_true rfl) dJ26_checkIndex_3 k_x (k_n (fun r_3 h_3 p_3 => ?_))
  obtain ⟨rfl, rfl⟩ := p_3
  exact g_iret dJ26_checkIndex_6 rfl ⟨_, rfl, rfl, rfl⟩
theorem LI.get {E : GE} {t : Nat} {h : AH} {l : Nat} {L : List Nat} {i : Nat} (hl : LI E t h l L) (hi : i < L.length) : ∃ arr mc f y, h l = some (t, gO 9 [.int mc, .ref arr, .int (nI L.length)]) ∧ h arr = some (t + 1, gAR E 5 (lcp L.length) f) ∧ f i = some y ∧ L[i]? = some y ∧ i < lcp L.length ∧ lcp L.length ≤ 33 := by
  obtain ⟨h0, arr, mc, a1, a2⟩ := hl
  rcases a2 with ⟨a2, -⟩ | ⟨a2, f, a3, a4⟩
  · subst a2
    exact absurd hi (Nat.not_lt_zero _)
  · refine ⟨arr, mc, f, L[i], a1, a3, ?_, List.getElem?_eq_getElem hi, ?_, ?_⟩
    · rw [a4 i hi]
      exact List.getElem?_eq_getElem hi
    · unfold lcp
      split <;> (try split) <;> (try split) <;> omega
    · unfold lcp
      split <;> (try split) <;> (try split) <;> omega
abbrev mJ21_elementData : GM := (yJ21_elementData, 2, (some (.object "java/lang/Object")), [], { frames := 0, cells := 0, slots := 0, locals := 0 }, 255)
theorem kJ21_elementData : gCv cJ21_elementData mJ21_elementData 1 := ⟨q1228, q1229, q92, q1230, ⟨by decide +kernel, by decide +kernel, by decide +kernel⟩, rfl⟩
theorem uJ21_elementData : gCu cJ21_elementData mJ21_elementData 1 := ⟨q1228, q92, q1230, ⟨by decide +kernel, by decide +kernel, by decide +kernel⟩, rfl⟩
set_option maxHeartbeats 400000 in
theorem ctJ21_elementData {E : GE} {h : AH} {t : Nat} {L : List Nat} (l i : Nat) (hl : LI E t h l L) (hi : i < L.length) : Ct E cJ21_elementData mJ21_elementData [.ref l, .int (nI i)] (h) (pR fun r h' => L[i]? = some r ∧ h' = h) (noX) := by
  refine g_enter (own := "java/util/ArrayList") [some (.ref l), some (.int (nI i))] (by decide +kernel) rfl rfl (Nat.le_of_ble_eq_true rfl) rfl rfl (fun X => ?_)
  obtain ⟨arr, mc, f, y, a1, a2, a3, a4, a5, a6⟩ := hl.get hi
  first | refine g_aload0 dJ21_elementData_0 ?_ | refine g_aloadQ0 dJ21_elementData_0 ?_ | refine g_aloadN0 dJ21_elementData_0 ?_
  refine g_get (k0 := 1) (by first | assumption | exact g_up_self _ _ _ | (refine g_upf ?_ ?_ <;> assumption) | (refine g_upt ?_ ?_ (by decide) <;> assumption)) in_J21 q975 rfl (by decide) rfl dJ21_elementData_1 ?_
  refine g_iload1 dJ21_elementData_4 ?_
  refine g_aald (by first | assumption | exact g_up_self _ _ _ | (refine g_upf ?_ ?_ <;> assumption) | (refine g_upt ?_ ?_ (by decide) <;> assumption)) rfl (by omega) (by omega) dJ21_elementData_5 ?_
  rw [a3]
  exact g_aret dJ21_elementData_6 rfl (Or.inl ⟨_, rfl⟩) ⟨_, rfl, a4, rfl⟩
abbrev mJ21_get : GM := (yJ21_get, 2, (some (.object "java/lang/Object")), [], { frames := 2, cells := 0, slots := 0, locals := 43 }, 255)
theorem uJ21_get : gCu cJ21_get mJ21_get 1 := ⟨q1218, q92, q1220, ⟨by decide +kernel, by decide +kernel, by decide +kernel⟩, rfl⟩
set_option maxHeartbeats 400000 in
theorem ctJ21_get {E : GE} {h : AH} {t : Nat} {L : List Nat} (l i : Nat) (hl : LI E t h l L) (hi : i < L.length) : Ct E cJ21_get mJ21_get [.ref l, .int (nI i)] (h) (pR fun r h' => L[i]? = some r ∧ h' = h) (noX) := by
  refine g_enter (own := "java/util/ArrayList") [some (.ref l), some (.int (nI i))] (by decide +kernel) rfl rfl (Nat.le_of_ble_eq_true rfl) rfl rfl (fun X => ?_)
  have hll := hl
  obtain ⟨h0, arr, mc, a1, a2⟩ := hll
  refine g_iload1 dJ21_get_0 ?_
  first | refine g_aload0 dJ21_get_1 ?_ | refine g_aloadQ0 dJ21_get_1 ?_ | refine g_aloadN0 dJ21_get_1 ?_
  refine g_get (k0 := 2) (by first | assumption | exact g_up_self _ _ _ | (refine g_upf ?_ ?_ <;> assumption) | (refine g_upt ?_ ?_ (by decide) <;> assumption)) in_J21 q976 rfl (by decide) rfl dJ21_get_2 ?_
  refine g_callS (ctJ26_checkIndex _ _ (by assumption) (by omega)) kJ26_checkIndex q1221 (by decide) ⟨Nat.le_of_ble_eq_true rfl, Nat.le_of_ble_eq_true rfl⟩ rfl (Nat.le_of_ble_eq_true rfl) dJ21_get_5 k_x (k_n (fun r_5 h_5 p_5 => ?_))
  obtain ⟨rfl, rfl⟩ := p_5
  refine g_pop dJ21_get_8 (by first | rfl | exact cat_rf _) ?_
  first | refine g_aload0 dJ21_get_9 ?_ | refine g_aloadQ0 dJ21_get_9 ?_ | refine g_aloadN0 dJ21_get_9 ?_
  refine g_iload1 dJ21_get_10 ?_
  refine g_callVR (ctJ21_elementData _ _ (by assumption) (by assumption)) kJ21_elementData q1227 (gRv.g (by assumption) rfl rfl) (by decide) ⟨Nat.le_of_ble_eq_true rfl, Nat.le_of_ble_eq_true rfl⟩ rfl (Nat.le_of_ble_eq_true rfl) dJ21_get_11 k_x (k_r (fun r_11 h_11 p_11 => ?_))
  obtain ⟨e_11, rfl⟩ := p_11
  exact g_aret dJ21_get_14 rfl (Or.inl ⟨_, rfl⟩) ⟨_, rfl, e_11, rfl⟩
abbrev mJ13_max : GM := (yJ13_max, 2, (some .int), [], { frames := 0, cells := 0, slots := 0, locals := 0 }, 255)
theorem kJ13_max : gCs cJ13_max mJ13_max 2 := ⟨q263, q82, q264, ⟨by decide +kernel, by decide +kernel, by decide +kernel⟩, rfl⟩
set_option maxHeartbeats 400000 in
theorem ctJ13_max {E : GE} {h : AH} (a b : Nat) (ha : a < 2147483648) (hb : b < 2147483648) : Ct E cJ13_max mJ13_max [.int (nI a), .int (nI b)] (h) (pN fun r h' => r = (max a b) ∧ h' = h) (noX) := by
  refine g_enterF (own := "java/lang/Math") [some (.int (nI a)), some (.int (nI b))] (by decide +kernel) rfl rfl (Nat.le_of_ble_eq_true rfl) rfl rfl (fun X => ?_)
  refine g_iload0 dJ13_max_0 ?_
  refine g_iload1 dJ13_max_1 ?_
  first | refine g_icmpN_lt (tgt := 9) dJ13_max_2 (by decide) (by omega) (by omega) (fun c_2 => ?_) (fun c_2 => ?_) | refine g_icmp_lt (tgt := 9) dJ13_max_2 (by decide) (fun c_2 => ?_) (fun c_2 => ?_)
  · refine g_iload1 dJ13_max_9 ?_
    exact g_iret dJ13_max_10 rfl ⟨_, rfl, by omega, rfl⟩
  · refine g_iload0 dJ13_max_5 ?_
    refine g_goto (tgt := 10) dJ13_max_6 (by decide) ?_
    exact g_iret dJ13_max_10 rfl ⟨_, rfl, by omega, rfl⟩
abbrev mJ13_min : GM := (yJ13_min, 2, (some .int), [], { frames := 0, cells := 0, slots := 0, locals := 0 }, 255)
theorem kJ13_min : gCs cJ13_min mJ13_min 2 := ⟨q281, q82, q282, ⟨by decide +kernel, by decide +kernel, by decide +kernel⟩, rfl⟩
set_option maxHeartbeats 400000 in
theorem ctJ13_min {E : GE} {h : AH} (a b : Nat) (ha : a < 2147483648) (hb : b < 2147483648) : Ct E cJ13_min mJ13_min [.int (nI a), .int (nI b)] (h) (pN fun r h' => r = (min a b) ∧ h' = h) (noX) := by
  refine g_enterF (own := "java/lang/Math") [some (.int (nI a)), some (.int (nI b))] (by decide +kernel) rfl rfl (Nat.le_of_ble_eq_true rfl) rfl rfl (fun X => ?_)
  refine g_iload0 dJ13_min_0 ?_
  refine g_iload1 dJ13_min_1 ?_
  first | refine g_icmpN_gt (tgt := 9) dJ13_min_2 (by decide) (by omega) (by omega) (fun c_2 => ?_) (fun c_2 => ?_) | refine g_icmp_gt (tgt := 9) dJ13_min_2 (by decide) (fun c_2 => ?_) (fun c_2 => ?_)
  · refine g_iload1 dJ13_min_9 ?_
    exact g_iret dJ13_min_10 rfl ⟨_, rfl, by omega, rfl⟩
  · refine g_iload0 dJ13_min_5 ?_
    refine g_goto (tgt := 10) dJ13_min_6 (by decide) ?_
    exact g_iret dJ13_min_10 rfl ⟨_, rfl, by omega, rfl⟩
abbrev mJ12_newLength : GM := (yJ12_newLength, 4, (some .int), [], { frames := 1, cells := 0, slots := 0, locals := 21 }, 255)
theorem kJ12_newLength : gCs cJ12_newLength mJ12_newLength 3 := ⟨q260, q81, q261, ⟨by decide +kernel, by decide +kernel, by decide +kernel⟩, rfl⟩
set_option maxHeartbeats 400000 in
theorem ctJ12_newLength {E : GE} {h : AH} (o m p : Nat) (ho : o < 100000) (hm : m < 100000) (hp : p < 100000) (h0 : 0 < o + m) : Ct E cJ12_newLength mJ12_newLength [.int (nI o), .int (nI m), .int (nI p)] (h) (pN fun r h' => r = (o + max m p) ∧ h' = h) (noX) := by
  refine g_enter (own := "jdk/internal/util/ArraysSupport") [some (.int (nI o)), some (.int (nI m)), some (.int (nI p)), none] (by decide +kernel) rfl rfl (Nat.le_of_ble_eq_true rfl) rfl rfl (fun X => ?_)
  refine g_iload0 dJ12_newLength_0 ?_
  refine g_iload1 dJ12_newLength_1 ?_
  refine g_iload2 dJ12_newLength_2 ?_
  refine g_callS (ctJ13_max _ _ (by omega) (by omega)) kJ13_max q262 (by decide) ⟨Nat.le_of_ble_eq_true rfl, Nat.le_of_ble_eq_true rfl⟩ rfl (Nat.le_of_ble_eq_true rfl) dJ12_newLength_3 k_x (k_n (fun r_3 h_3 p_3 => ?_))
  obtain ⟨rfl, rfl⟩ := p_3
  first | refine g_iaddN dJ12_newLength_6 ?_ | refine g_iadd dJ12_newLength_6 ?_
  refine g_istore3 dJ12_newLength_7 (by decide) ?_
  refine g_iconst (nI 0) dJ12_newLength_8 (by decide) ?_
  refine g_iload3 dJ12_newLength_9 ?_
  first | refine g_icmpN_ge (tgt := 21) dJ12_newLength_10 (by decide) (by omega) (by omega) (fun c_10 => ?_) (fun c_10 => ?_) | refine g_icmp_ge (tgt := 21) dJ12_newLength_10 (by decide) (fun c_10 => ?_) (fun c_10 => ?_)
  · omega
  · refine g_iload3 dJ12_newLength_13 ?_
    refine g_ldcN 2147483639 q265 (by decide) dJ12_newLength_14 ?_
    first | refine g_icmpN_gt (tgt := 21) dJ12_newLength_16 (by decide) (by omega) (by omega) (fun c_16 => ?_) (fun c_16 => ?_) | refine g_icmp_gt (tgt := 21) dJ12_newLength_16 (by decide) (fun c_16 => ?_) (fun c_16 => ?_)
    · omega
    · refine g_iload3 dJ12_newLength_19 ?_
      exact g_iret dJ12_newLength_20 rfl ⟨_, rfl, rfl, rfl⟩
theorem cpN_all {f g : Nat → Option Nat} {n : Nat} : ∀ i, i < n → cpN f g 0 0 n i = f i := fun i hi => by
  unfold cpN va_cpy
  rw [if_pos (by omega)]
  congr 1
  omega
theorem gOb.new {E : GE} {h : AH} {q : Nat} {z : Nat × va_E} {y : Nat} (hq : h q = none) (hy : gOb E h y) : gOb E (g_up h q z) y := by
  obtain ⟨C, hr, hc⟩ := hy
  exact ⟨C, gRv.fr (P := fun _ => False) (Fr.new hq) hr (fun _ _ _ => id), hc⟩
abbrev mJ2_copyOf_3 : GM := (yJ2_copyOf_3, 4, (some (.array (.object "java/lang/Object"))), [], { frames := 1, cells := 1, slots := 64, locals := 60 }, 255)
theorem kJ2_copyOf_3 : gCs cJ2_copyOf_3 mJ2_copyOf_3 3 := ⟨q895, q71, q896, ⟨by decide +kernel, by decide +kernel, by decide +kernel⟩, rfl⟩
set_option maxHeartbeats 400000 in
theorem ctJ2_copyOf_3 {E : GE} {h : AH} {t n a : Nat} {f : Nat → Option Nat} (t' m mi : Nat) (ha : h a = some (t, gAR E 5 n f)) (hel : ∀ i, i < n → ∀ y, f i = some y → gOb E h y) (hn : n ≤ m) (hm : m < 64) (hmi : gMi E "[Ljava/lang/Object;" mi) : Ct E cJ2_copyOf_3 mJ2_copyOf_3 [.ref a, .int (nI m), .ref mi] (h) (pR fun r h' => ∃ g, h r = none ∧ h' = g_up h r (t', gAR E 5 m g) ∧ ∀ i, i < n → g i = f i) (noX) := by
  refine g_enter (own := "java/util/Arrays") [some (.ref a), some (.int (nI m)), some (.ref mi), none] (by decide +kernel) rfl rfl (Nat.le_of_ble_eq_true rfl) rfl rfl (fun X => ?_)
  first | refine g_aload2 dJ2_copyOf_3_0 ?_ | refine g_aloadQ2 dJ2_copyOf_3_0 ?_ | refine g_aloadN2 dJ2_copyOf_3_0 ?_
  refine g_ldcM q897 hmi dJ2_copyOf_3_1 ?_
  refine g_acmp_ne (rx := some mi) (ry := some mi) (tgt := 13) dJ2_copyOf_3_3 (by decide) (fun z => absurd rfl z) (fun _ => ?_)
  refine g_iload1 dJ2_copyOf_3_6 ?_
  refine g_newR (j := 5) t' q898 q149 rfl (by omega) (Nat.le_of_ble_eq_true rfl) (by show _ + m ≤ 64; omega) dJ2_copyOf_3_7 (fun q_7 f_7 => ?_)
  have ha2 := g_upf (z := (t', gAR E 5 m (fun _ => none))) ha f_7
  refine V.wide (k' := 1) (n' := 64) (by omega) (by omega) ?_
  refine g_goto (tgt := 24) dJ2_copyOf_3_10 (by decide) ?_
  first | refine g_astore3 dJ2_copyOf_3_24 (by decide) ?_ | refine g_astoreQ3 dJ2_copyOf_3_24 (by decide) ?_ | refine g_astoreN3 dJ2_copyOf_3_24 (by decide) ?_
  first | refine g_aload0 dJ2_copyOf_3_25 ?_ | refine g_aloadQ0 dJ2_copyOf_3_25 ?_ | refine g_aloadN0 dJ2_copyOf_3_25 ?_
  refine g_iconst (nI 0) dJ2_copyOf_3_26 (by decide) ?_
  first | refine g_aload3 dJ2_copyOf_3_27 ?_ | refine g_aloadQ3 dJ2_copyOf_3_27 ?_ | refine g_aloadN3 dJ2_copyOf_3_27 ?_
  refine g_iconst (nI 0) dJ2_copyOf_3_28 (by decide) ?_
  first | refine g_aload0 dJ2_copyOf_3_29 ?_ | refine g_aloadQ0 dJ2_copyOf_3_29 ?_ | refine g_aloadN0 dJ2_copyOf_3_29 ?_
  refine g_alen (by first | assumption | exact g_up_self _ _ _ | (refine g_upf ?_ ?_ <;> assumption) | (refine g_upt ?_ ?_ (by decide) <;> assumption)) (by first | exact Or.inl ⟨_, rfl⟩ | exact Or.inr (Or.inr (Or.inl ⟨_, rfl⟩)) | exact Or.inr (Or.inr (Or.inr (Or.inl ⟨_, rfl⟩))) | exact Or.inr (Or.inr (Or.inr (Or.inr (Or.inr ⟨_, _, by decide, by decide, rfl⟩))))) rfl dJ2_copyOf_3_30 ?_
  refine g_iload1 dJ2_copyOf_3_31 ?_
  refine g_callS (ctJ13_min _ _ (by omega) (by omega)) kJ13_min q280 (by decide) ⟨Nat.le_of_ble_eq_true rfl, Nat.le_of_ble_eq_true rfl⟩ rfl (Nat.le_of_ble_eq_true rfl) dJ2_copyOf_3_32 k_x (k_n (fun r_32 h_32 p_32 => ?_))
  obtain ⟨rfl, rfl⟩ := p_32
  refine g_copyQ (sp := 0) (dp := 0) ⟨q283, q285, q284, q83⟩ ha2 (g_up_self _ _ _) (fun i hi y hy => gOb.new f_7 (hel i (by omega) y (by rw [Nat.zero_add] at hy; exact hy))) (by omega) (by omega) (by omega) (Nat.le_of_ble_eq_true rfl) (Nat.le_of_ble_eq_true rfl) dJ2_copyOf_3_35 ?_
  rw [g_upup]
  first | refine g_aload3 dJ2_copyOf_3_38 ?_ | refine g_aloadQ3 dJ2_copyOf_3_38 ?_ | refine g_aloadN3 dJ2_copyOf_3_38 ?_
  exact g_aret dJ2_copyOf_3_39 rfl (Or.inr ⟨_, rfl⟩) ⟨_, rfl, _, f_7, rfl, fun i hi => (show cpN _ _ 0 0 (min n m) i = _ by rw [Nat.min_eq_left hn]; exact cpN_all i hi)⟩
abbrev mJ2_copyOf_2 : GM := (yJ2_copyOf_2, 2, (some (.array (.object "java/lang/Object"))), [], { frames := 2, cells := 1, slots := 64, locals := 83 }, 255)
theorem kJ2_copyOf_2 : gCs cJ2_copyOf_2 mJ2_copyOf_2 2 := ⟨q852, q71, q853, ⟨by decide +kernel, by decide +kernel, by decide +kernel⟩, rfl⟩
set_option maxHeartbeats 400000 in
theorem ctJ2_copyOf_2 {E : GE} {h : AH} {t n a : Nat} {f : Nat → Option Nat} (t' m mi : Nat) (ha : h a = some (t, gAR E 5 n f)) (hel : ∀ i, i < n → ∀ y, f i = some y → gOb E h y) (hn : n ≤ m) (hm : m < 64) (hmi : gMi E "[Ljava/lang/Object;" mi) : Ct E cJ2_copyOf_2 mJ2_copyOf_2 [.ref a, .int (nI m)] (h) (pR fun r h' => ∃ g, h r = none ∧ h' = g_up h r (t', gAR E 5 m g) ∧ ∀ i, i < n → g i = f i) (noX) := by
  refine g_enter (own := "java/util/Arrays") [some (.ref a), some (.int (nI m))] (by decide +kernel) rfl rfl (Nat.le_of_ble_eq_true rfl) rfl rfl (fun X => ?_)
  first | refine g_aload0 dJ2_copyOf_2_0 ?_ | refine g_aloadQ0 dJ2_copyOf_2_0 ?_ | refine g_aloadN0 dJ2_copyOf_2_0 ?_
  refine g_iload1 dJ2_copyOf_2_1 ?_
  first | refine g_aload0 dJ2_copyOf_2_2 ?_ | refine g_aloadQ0 dJ2_copyOf_2_2 ?_ | refine g_aloadN0 dJ2_copyOf_2_2 ?_
  refine g_getC (mi := mi) ha q854 q2605 q2604 q855 q893 hmi (Nat.le_of_ble_eq_true rfl) (Nat.le_of_ble_eq_true rfl) dJ2_copyOf_2_3 ?_
  refine g_callS (ctJ2_copyOf_3 t' _ mi (by assumption) (by assumption) (by omega) (by omega) (by assumption)) kJ2_copyOf_3 q894 (by decide) ⟨Nat.le_of_ble_eq_true rfl, Nat.le_of_ble_eq_true rfl⟩ rfl (Nat.le_of_ble_eq_true rfl) dJ2_copyOf_2_6 k_x (k_r (fun r_6 h_6 p_6 => ?_))
  obtain ⟨g_6, e_6, rfl, w_6⟩ := p_6
  exact g_aret dJ2_copyOf_2_9 rfl (Or.inr ⟨_, rfl⟩) ⟨_, rfl, _, e_6, rfl, w_6⟩
/-- the list's array before its next element -/
def LF (E : GE) (t : Nat) (h : AH) (l : Nat) (L : List Nat) (mc : Int32) (arr : Nat) : Prop := h l = some (t, gO 9 [.int mc, .ref arr, .int (nI L.length)]) ∧ ((L = [] ∧ arr = eE E) ∨ (L ≠ [] ∧ ∃ f, h arr = some (t + 1, gAR E 5 (lcp L.length) f) ∧ ∀ i, i < L.length → f i = L[i]?))
/-- behind grow -/
def LG (E : GE) (t : Nat) (h : AH) (l : Nat) (L : List Nat) (mc : Int32) (r : Nat) (h' : AH) : Prop := ∃ g, h r = none ∧ h' = g_up (g_up h r (t + 1, gAR E 5 (lcp (L.length + 1)) g)) l (t, gO 9 [.int mc, .ref r, .int (nI L.length)]) ∧ ∀ i, i < L.length → g i = L[i]?
theorem LF.ne {E : GE} {t : Nat} {h : AH} {l q : Nat} {L : List Nat} {mc : Int32} {arr : Nat} (hl : LF E t h l L mc arr) (hq : h q = none) : l ≠ q := g_fne hq hl.1
abbrev mJ21_grow_2 : GM := (yJ21_grow_2, 4, (some (.array (.object "java/lang/Object"))), [], { frames := 3, cells := 1, slots := 64, locals := 104 }, 255)
theorem kJ21_grow_2 : gCv cJ21_grow_2 mJ21_grow_2 1 := ⟨q1010, qs5, q92, q1011, ⟨by decide +kernel, by decide +kernel, by decide +kernel⟩, rfl⟩
theorem uJ21_grow_2 : gCu cJ21_grow_2 mJ21_grow_2 1 := ⟨q1010, q92, q1011, ⟨by decide +kernel, by decide +kernel, by decide +kernel⟩, rfl⟩
set_option maxHeartbeats 400000 in
theorem ctJ21_grow_2 {E : GE} {h : AH} {t l : Nat} {L : List Nat} {mc : Int32} {arr : Nat} (hl : LF E t h l L mc arr) (hg : L = [] ∨ L.length = 10 ∨ L.length = 15 ∨ L.length = 22) (hel : ∀ y ∈ L, gOb E h y) : Ct E cJ21_grow_2 mJ21_grow_2 [.ref l, .int (nI (L.length + 1))] (h) (pR fun r h' => LG E t h l L mc r h') (noX) := by
  refine g_enter (own := "java/util/ArrayList") [some (.ref l), some (.int (nI (L.length + 1))), none, none] (by decide +kernel) rfl rfl (Nat.le_of_ble_eq_true rfl) rfl rfl (fun X => ?_)
  obtain ⟨a1, a2⟩ := hl
  refine V.hE (fun hE => ?_)
  rcases a2 with ⟨rfl, rfl⟩ | ⟨a2, f, a3, a4⟩
  · have z0 : [].length = 0 := (rfl : ([] : List Nat).length = 0)
    first | refine g_aload0 dJ21_grow_2_0 ?_ | refine g_aloadQ0 dJ21_grow_2_0 ?_ | refine g_aloadN0 dJ21_grow_2_0 ?_
    refine g_get (k0 := 1) (by first | assumption | exact g_up_self _ _ _ | (refine g_upf ?_ ?_ <;> assumption) | (refine g_upt ?_ ?_ (by decide) <;> assumption)) in_J21 q975 rfl (by decide) rfl dJ21_grow_2_1 ?_
    refine g_tlen hE.e0 rfl dJ21_grow_2_4 ?_
    rw [show Int32.ofNat 0 = nI 0 from rfl]
    refine g_istore2 dJ21_grow_2_5 (by decide) ?_
    refine g_iload2 dJ21_grow_2_6 ?_
    first | refine g_ifN_gt (tgt := 20) dJ21_grow_2_7 (by decide) (by omega) (fun c_7 => ?_) (fun c_7 => ?_) | refine g_if_gt (tgt := 20) dJ21_grow_2_7 (by decide) (fun c_7 => ?_) (fun c_7 => ?_)
    · omega
    · first | refine g_aload0 dJ21_grow_2_10 ?_ | refine g_aloadQ0 dJ21_grow_2_10 ?_ | refine g_aloadN0 dJ21_grow_2_10 ?_
      refine g_get (k0 := 1) (by first | assumption | exact g_up_self _ _ _ | (refine g_upf ?_ ?_ <;> assumption) | (refine g_upt ?_ ?_ (by decide) <;> assumption)) in_J21 q975 rfl (by decide) rfl dJ21_grow_2_11 ?_
      refine g_gets (ref := "java/util/ArrayList") hE.eZ q973 dJ21_grow_2_14 ?_
      refine g_acmp_eq (rx := some (eE E)) (ry := some (eE E)) (tgt := 45) dJ21_grow_2_17 (by decide) (fun _ => ?_) (fun z => absurd rfl z)
      first | refine g_aload0 dJ21_grow_2_45 ?_ | refine g_aloadQ0 dJ21_grow_2_45 ?_ | refine g_aloadN0 dJ21_grow_2_45 ?_
      refine g_bipush (nI 10) dJ21_grow_2_46 (by decide) ?_
      refine g_iload1 dJ21_grow_2_48 ?_
      rw [show (([] : List Nat).length + 1) = 1 from rfl]
      refine g_callS (ctJ13_max _ _ (by omega) (by omega)) kJ13_max q1014 (by decide) ⟨Nat.le_of_ble_eq_true rfl, Nat.le_of_ble_eq_true rfl⟩ rfl (Nat.le_of_ble_eq_true rfl) dJ21_grow_2_49 k_x (k_n (fun r_49 h_49 p_49 => ?_))
      obtain ⟨rfl, rfl⟩ := p_49
      rw [show max 10 1 = 10 from rfl]
      refine g_newR (j := 5) (t + 1) q1015 q149 rfl (by omega) (Nat.le_of_ble_eq_true rfl) (Nat.le_of_ble_eq_true rfl) dJ21_grow_2_52 (fun q_52 f_52 => ?_)
      have a5 := g_upf (z := (t + 1, gAR E 5 10 (fun _ => none))) a1 f_52
      refine g_dup_x1 dJ21_grow_2_55 rfl rfl ?_
      refine g_put (k0 := 1) (by first | assumption | exact g_up_self _ _ _ | (refine g_upf ?_ ?_ <;> assumption) | (refine g_upt ?_ ?_ (by decide) <;> assumption)) in_J21 q975 tyJ21_ok nmJ21 rfl (by decide) rfl (by rfl) (by rfl) (Nat.le_of_ble_eq_true rfl) dJ21_grow_2_56 ?_
      exact g_aret dJ21_grow_2_59 rfl (Or.inr ⟨_, rfl⟩) ⟨_, rfl, _, f_52, rfl, fun i hi => absurd hi (Nat.not_lt_zero i)⟩
  · have hlen : L.length = 10 ∨ L.length = 15 ∨ L.length = 22 := by
      rcases hg with z | z
      · exact absurd z a2
      · exact z
    obtain ⟨mi, hmi⟩ := hE.mO
    have hc0 : lcp L.length = L.length := by
      unfold lcp
      rcases hlen with z | z | z <;> rw [z] <;> rfl
    have hc1 : L.length + max (L.length + 1 - L.length) (L.length / 2) = lcp (L.length + 1) := by
      unfold lcp
      rcases hlen with z | z | z <;> rw [z] <;> rfl
    have hb : L.length ≤ 22 := by omega
    have hb1 : lcp (L.length + 1) ≤ 33 := by
      rcases hlen with z | z | z <;> rw [z] <;> decide
    have hb2 : L.length + 1 ≤ lcp (L.length + 1) := by
      rcases hlen with z | z | z <;> rw [z] <;> decide
    rw [hc0] at a3
    have hel2 : ∀ i, i < L.length → ∀ y, f i = some y → gOb E h y := fun i hi y hy => by
      rw [a4 i hi] at hy
      exact hel y (List.mem_of_getElem? hy)
    have hc2 : L.length + max (L.length + 1 - L.length) (L.length / 2 ^ 1) = lcp (L.length + 1) := hc1
    first | refine g_aload0 dJ21_grow_2_0 ?_ | refine g_aloadQ0 dJ21_grow_2_0 ?_ | refine g_aloadN0 dJ21_grow_2_0 ?_
    refine g_get (k0 := 1) (by first | assumption | exact g_up_self _ _ _ | (refine g_upf ?_ ?_ <;> assumption) | (refine g_upt ?_ ?_ (by decide) <;> assumption)) in_J21 q975 rfl (by decide) rfl dJ21_grow_2_1 ?_
    refine g_alen (by first | assumption | exact g_up_self _ _ _ | (refine g_upf ?_ ?_ <;> assumption) | (refine g_upt ?_ ?_ (by decide) <;> assumption)) (by first | exact Or.inl ⟨_, rfl⟩ | exact Or.inr (Or.inr (Or.inl ⟨_, rfl⟩)) | exact Or.inr (Or.inr (Or.inr (Or.inl ⟨_, rfl⟩))) | exact Or.inr (Or.inr (Or.inr (Or.inr (Or.inr ⟨_, _, by decide, by decide, rfl⟩))))) rfl dJ21_grow_2_4 ?_
    rw [show Int32.ofNat L.length = nI L.length from rfl]
    refine g_istore2 dJ21_grow_2_5 (by decide) ?_
    refine g_iload2 dJ21_grow_2_6 ?_
    first | refine g_ifN_gt (tgt := 20) dJ21_grow_2_7 (by decide) (by omega) (fun c_7 => ?_) (fun c_7 => ?_) | refine g_if_gt (tgt := 20) dJ21_grow_2_7 (by decide) (fun c_7 => ?_) (fun c_7 => ?_)
    · refine g_iload2 dJ21_grow_2_20 ?_
      refine g_iload1 dJ21_grow_2_21 ?_
      refine g_iload2 dJ21_grow_2_22 ?_
      first | refine g_isubN dJ21_grow_2_23 (by omega) ?_ | refine g_isub dJ21_grow_2_23 ?_
      refine g_iload2 dJ21_grow_2_24 ?_
      refine g_iconst (nI 1) dJ21_grow_2_25 (by decide) ?_
      refine g_ishrN dJ21_grow_2_26 (by omega) (by omega) ?_
      refine g_callS (ctJ12_newLength _ _ _ (by omega) (by omega) (by omega) (by omega)) kJ12_newLength q1012 (by decide) ⟨Nat.le_of_ble_eq_true rfl, Nat.le_of_ble_eq_true rfl⟩ rfl (Nat.le_of_ble_eq_true rfl) dJ21_grow_2_27 k_x (k_n (fun r_27 h_27 p_27 => ?_))
      obtain ⟨rfl, rfl⟩ := p_27
      rw [hc2]
      refine g_istore3 dJ21_grow_2_30 (by decide) ?_
      first | refine g_aload0 dJ21_grow_2_31 ?_ | refine g_aloadQ0 dJ21_grow_2_31 ?_ | refine g_aloadN0 dJ21_grow_2_31 ?_
      first | refine g_aload0 dJ21_grow_2_32 ?_ | refine g_aloadQ0 dJ21_grow_2_32 ?_ | refine g_aloadN0 dJ21_grow_2_32 ?_
      refine g_get (k0 := 1) (by first | assumption | exact g_up_self _ _ _ | (refine g_upf ?_ ?_ <;> assumption) | (refine g_upt ?_ ?_ (by decide) <;> assumption)) in_J21 q975 rfl (by decide) rfl dJ21_grow_2_33 ?_
      refine g_iload3 dJ21_grow_2_36 ?_
      refine g_callS (ctJ2_copyOf_2 (t + 1) _ mi (by assumption) (by assumption) (by omega) (by omega) (by assumption)) kJ2_copyOf_2 q1013 (by decide) ⟨Nat.le_of_ble_eq_true rfl, Nat.le_of_ble_eq_true rfl⟩ rfl (Nat.le_of_ble_eq_true rfl) dJ21_grow_2_37 k_x (k_r (fun r_37 h_37 p_37 => ?_))
      obtain ⟨g_37, e_37, rfl, w_37⟩ := p_37
      refine g_dup_x1 dJ21_grow_2_40 rfl rfl ?_
      have a5 := g_upf (z := (t + 1, gAR E 5 (lcp (L.length + 1)) g_37)) a1 e_37
      refine g_put (k0 := 1) (by first | assumption | exact g_up_self _ _ _ | (refine g_upf ?_ ?_ <;> assumption) | (refine g_upt ?_ ?_ (by decide) <;> assumption)) in_J21 q975 tyJ21_ok nmJ21 rfl (by decide) rfl (by rfl) (by rfl) (Nat.le_of_ble_eq_true rfl) dJ21_grow_2_41 ?_
      exact g_aret dJ21_grow_2_44 rfl (Or.inr ⟨_, rfl⟩) ⟨_, rfl, _, e_37, rfl, fun i hi => (w_37 i hi).trans (a4 i hi)⟩
    · omega
abbrev mJ21_grow : GM := (yJ21_grow, 1, (some (.array (.object "java/lang/Object"))), [], { frames := 4, cells := 1, slots := 64, locals := 127 }, 255)
theorem kJ21_grow : gCv cJ21_grow mJ21_grow 0 := ⟨q1006, qs4, q92, q1007, ⟨by decide +kernel, by decide +kernel, by decide +kernel⟩, rfl⟩
theorem uJ21_grow : gCu cJ21_grow mJ21_grow 0 := ⟨q1006, q92, q1007, ⟨by decide +kernel, by decide +kernel, by decide +kernel⟩, rfl⟩
set_option maxHeartbeats 400000 in
theorem ctJ21_grow {E : GE} {h : AH} {t l : Nat} {L : List Nat} {mc : Int32} {arr : Nat} (hl : LF E t h l L mc arr) (hg : L = [] ∨ L.length = 10 ∨ L.length = 15 ∨ L.length = 22) (hel : ∀ y ∈ L, gOb E h y) : Ct E cJ21_grow mJ21_grow [.ref l] (h) (pR fun r h' => LG E t h l L mc r h') (noX) := by
  refine g_enter (own := "java/util/ArrayList") [some (.ref l)] (by decide +kernel) rfl rfl (Nat.le_of_ble_eq_true rfl) rfl rfl (fun X => ?_)
  have hll := hl
  obtain ⟨a1, -⟩ := hll
  first | refine g_aload0 dJ21_grow_0 ?_ | refine g_aloadQ0 dJ21_grow_0 ?_ | refine g_aloadN0 dJ21_grow_0 ?_
  first | refine g_aload0 dJ21_grow_1 ?_ | refine g_aloadQ0 dJ21_grow_1 ?_ | refine g_aloadN0 dJ21_grow_1 ?_
  refine g_get (k0 := 2) (by first | assumption | exact g_up_self _ _ _ | (refine g_upf ?_ ?_ <;> assumption) | (refine g_upt ?_ ?_ (by decide) <;> assumption)) in_J21 q976 rfl (by decide) rfl dJ21_grow_2 ?_
  refine g_iconst (nI 1) dJ21_grow_5 (by decide) ?_
  first | refine g_iaddN dJ21_grow_6 ?_ | refine g_iadd dJ21_grow_6 ?_
  refine g_callVR (ctJ21_grow_2 hl hg hel) kJ21_grow_2 q1008 (gRv.g a1 rfl rfl) (by decide) ⟨Nat.le_of_ble_eq_true rfl, Nat.le_of_ble_eq_true rfl⟩ rfl (Nat.le_of_ble_eq_true rfl) dJ21_grow_7 k_x (k_r (fun r_7 h_7 p_7 => ?_))
  exact g_aret dJ21_grow_10 rfl (Or.inr ⟨_, rfl⟩) ⟨_, rfl, p_7⟩
theorem lcp_lt {n : Nat} (h : n ≤ 32) : n ≤ lcp n ∧ lcp n ≤ 33 := by
  unfold lcp
  split <;> (try split) <;> (try split) <;> omega
theorem lcp_step0 : ∀ n, n < 32 → n ≠ 0 → ¬ n = lcp n → n < lcp n ∧ lcp (n + 1) = lcp n := by decide
theorem lcp_step {n : Nat} (h : n ≤ 31) (h0 : n ≠ 0) (hf : ¬ n = lcp n) : n < lcp n ∧ lcp (n + 1) = lcp n := lcp_step0 n (by omega) h0 hf
theorem lst_app {L : List Nat} {e : Nat} {g : Nat → Option Nat} (hg : ∀ i, i < L.length → g i = L[i]?) : ∀ i, i < (L ++ [e]).length → nup g L.length (some e) i = (L ++ [e])[i]? := by
  intro i hi
  rw [List.length_append, List.length_singleton] at hi
  unfold nup
  by_cases h : i = L.length
  · rw [if_pos h, h, List.getElem?_append_right (Nat.le_refl _), Nat.sub_self]
    rfl
  · rw [if_neg h, hg i (by omega), List.getElem?_append_left (by omega)]
theorem gOb.put {E : GE} {h : AH} {a t ci y : Nat} {fs fs' : List Value} {C : String} (ha : h a = some (t, gO ci fs)) (hr : gRv E h y C) (hc : Cond.castable C "java/lang/Object" ∈ lw_tbl) : gOb E (g_up h a (t, gO ci fs')) y := by
  refine ⟨C, ?_, hc⟩
  rcases hr with ⟨t1, ci1, fs1, q, h1, h2, h3⟩ | hr
  · by_cases e : y = a
    · subst e
      rw [ha] at h1
      injection h1 with h1
      injection h1 with e1 e2
      injection e2 with e2
      injection e2 with e2 e3
      subst e2
      exact Or.inl ⟨t, ci, fs', q, g_up_self _ _ _, h2, h3⟩
    · exact Or.inl ⟨t1, ci1, fs1, q, g_up_of h1 e, h2, h3⟩
  · exact Or.inr hr
abbrev mJ21_add_2 : GM := (yJ21_add_2, 4, none, [], { frames := 5, cells := 1, slots := 64, locals := 147 }, 255)
theorem kJ21_add_2 : gCv cJ21_add_2 mJ21_add_2 3 := ⟨q1002, qs3, q92, q1003, ⟨by decide +kernel, by decide +kernel, by decide +kernel⟩, rfl⟩
theorem uJ21_add_2 : gCu cJ21_add_2 mJ21_add_2 3 := ⟨q1002, q92, q1003, ⟨by decide +kernel, by decide +kernel, by decide +kernel⟩, rfl⟩
set_option maxHeartbeats 400000 in
theorem ctJ21_add_2 {E : GE} {h : AH} {t l e : Nat} {L : List Nat} {mc : Int32} {arr : Nat} (hl : LF E t h l L mc arr) (h32 : L.length ≤ 31) (hel : ∀ y ∈ L, gOb E h y) (he : gOb E h e) : Ct E cJ21_add_2 mJ21_add_2 [.ref l, .ref e, .ref arr, .int (nI L.length)] (h) (pV fun h' => LI E t h' l (L ++ [e]) ∧ Fr (fun u => u = t ∨ u = t + 1) h h') (noX) := by
  refine g_enter (own := "java/util/ArrayList") [some (.ref l), some (.ref e), some (.ref arr), some (.int (nI L.length))] (by decide +kernel) rfl rfl (Nat.le_of_ble_eq_true rfl) rfl rfl (fun X => ?_)
  have hll := hl
  obtain ⟨a1, a2⟩ := hll
  have hlen : (L ++ [e]).length = L.length + 1 := by rw [List.length_append, List.length_singleton]
  have hcl := lcp_lt (n := L.length) (by omega)
  have K : ∀ (h1 : AH) (r : Nat) (g : Nat → Option Nat) (k n : Nat), k ≤ 1 → n ≤ 64 → h1 l = some (t, gO 9 [.int mc, .ref r, .int (nI L.length)]) → h1 r = some (t + 1, gAR E 5 (lcp (L.length + 1)) g) → (∀ i, i < L.length → g i = L[i]?) → gOb E h1 e → Fr (fun u => u = t ∨ u = t + 1) h h1 → V E cJ21_add_2 "java/util/ArrayList" mJ21_add_2 (pV fun h' => LI E t h' l (L ++ [e]) ∧ Fr (fun u => u = t ∨ u = t + 1) h h') noX X (h1) k n 11 [some (.ref l), some (.ref e), some (.ref r), some (.int (nI L.length))] [] := by
    intro h1 r g k n hk hn b1 b2 b3 b4 b5
    have hc1 := lcp_lt (n := L.length + 1) (by omega)
    refine V.wide hk hn ?_
    first | refine g_aload2 dJ21_add_2_11 ?_ | refine g_aloadQ2 dJ21_add_2_11 ?_ | refine g_aloadN2 dJ21_add_2_11 ?_
    refine g_iload3 dJ21_add_2_12 ?_
    first | refine g_aload1 dJ21_add_2_13 ?_ | refine g_aloadQ1 dJ21_add_2_13 ?_ | refine g_aloadN1 dJ21_add_2_13 ?_
    refine g_aastA b2 (by omega) (by omega) b4 dJ21_add_2_14 ?_
    have b6 := g_upt (x' := gAR E 5 (lcp (L.length + 1)) (nup g L.length (some e))) b1 b2 (by omega)
    first | refine g_aload0 dJ21_add_2_15 ?_ | refine g_aloadQ0 dJ21_add_2_15 ?_ | refine g_aloadN0 dJ21_add_2_15 ?_
    refine g_iload3 dJ21_add_2_16 ?_
    refine g_iconst (nI 1) dJ21_add_2_17 (by decide) ?_
    first | refine g_iaddN dJ21_add_2_18 ?_ | refine g_iadd dJ21_add_2_18 ?_
    refine g_put (k0 := 2) (by first | assumption | exact g_up_self _ _ _ | (refine g_upf ?_ ?_ <;> assumption) | (refine g_upt ?_ ?_ (by decide) <;> assumption)) in_J21 q976 tyJ21_ok nmJ21 rfl (by decide) rfl (by rfl) (by rfl) (Nat.le_of_ble_eq_true rfl) dJ21_add_2_19 ?_
    exact g_vret dJ21_add_2_22 rfl ⟨rfl, ⟨by rw [hlen]; omega, r, mc, by rw [hlen]; exact g_up_self _ _ _, Or.inr ⟨List.append_ne_nil_of_right_ne_nil _ (List.cons_ne_nil _ _), _, by rw [hlen]; exact g_upt (g_up_self _ _ _) b6 (by omega), by exact lst_app b3⟩⟩, (b5.put2 b2 (Or.inr rfl) rfl).put2 b6 (Or.inl rfl) rfl⟩
  have G : (L = [] ∨ L.length = 10 ∨ L.length = 15 ∨ L.length = 22) → V E cJ21_add_2 "java/util/ArrayList" mJ21_add_2 (pV fun h' => LI E t h' l (L ++ [e]) ∧ Fr (fun u => u = t ∨ u = t + 1) h h') noX X (h) 0 0 6 [some (.ref l), some (.ref e), some (.ref arr), some (.int (nI L.length))] [] := by
    intro hg
    first | refine g_aload0 dJ21_add_2_6 ?_ | refine g_aloadQ0 dJ21_add_2_6 ?_ | refine g_aloadN0 dJ21_add_2_6 ?_
    refine g_callVR (ctJ21_grow hl hg hel) kJ21_grow q1004 (gRv.g a1 rfl rfl) (by decide) ⟨Nat.le_of_ble_eq_true rfl, Nat.le_of_ble_eq_true rfl⟩ rfl (Nat.le_of_ble_eq_true rfl) dJ21_add_2_7 k_x (k_r (fun r_7 h_7 p_7 => ?_))
    obtain ⟨g1, e7, rfl, w7⟩ := p_7
    have hne : l ≠ r_7 := hl.ne e7
    first | refine g_astore2 dJ21_add_2_10 (by decide) ?_ | skip
    exact K _ _ g1 _ _ (by decide) (by decide) (g_up_self _ _ _) (g_up_of (g_up_self _ _ _) (fun z => hne z.symm)) w7 (by obtain ⟨C, c1, c2⟩ := gOb.new (z := (t + 1, gAR E 5 (lcp (L.length + 1)) g1)) e7 he; exact gOb.put (g_upf a1 e7) c1 c2) ((Fr.new e7).put2 (g_upf a1 e7) (Or.inl rfl) rfl)
  rcases a2 with ⟨rfl, rfl⟩ | ⟨a2, f, a3, a4⟩
  · refine V.hE (fun hE => ?_)
    refine g_iload3 dJ21_add_2_0 ?_
    first | refine g_aload2 dJ21_add_2_1 ?_ | refine g_aloadQ2 dJ21_add_2_1 ?_ | refine g_aloadN2 dJ21_add_2_1 ?_
    refine g_tlen hE.e0 rfl dJ21_add_2_2 ?_
    rw [show Int32.ofNat 0 = nI 0 from rfl, show nI ([] : List Nat).length = nI 0 from rfl]
    first | refine g_icmpN_ne (tgt := 11) dJ21_add_2_3 (by decide) (by omega) (by omega) (fun c_3 => ?_) (fun c_3 => ?_) | refine g_icmpU_ne (tgt := 11) dJ21_add_2_3 (by decide) (by omega) (by omega) (fun c_3 => ?_) (fun c_3 => ?_) | refine g_icmp_ne (tgt := 11) dJ21_add_2_3 (by decide) (fun c_3 => ?_) (fun c_3 => ?_)
    · exact absurd rfl c_3
    · exact G (Or.inl rfl)
  · have hn0 : L.length ≠ 0 := fun z => a2 (List.length_eq_zero_iff.mp z)
    refine g_iload3 dJ21_add_2_0 ?_
    first | refine g_aload2 dJ21_add_2_1 ?_ | refine g_aloadQ2 dJ21_add_2_1 ?_ | refine g_aloadN2 dJ21_add_2_1 ?_
    refine g_alen (by first | assumption | exact g_up_self _ _ _ | (refine g_upf ?_ ?_ <;> assumption) | (refine g_upt ?_ ?_ (by decide) <;> assumption)) (by first | exact Or.inl ⟨_, rfl⟩ | exact Or.inr (Or.inr (Or.inl ⟨_, rfl⟩)) | exact Or.inr (Or.inr (Or.inr (Or.inl ⟨_, rfl⟩))) | exact Or.inr (Or.inr (Or.inr (Or.inr (Or.inr ⟨_, _, by decide, by decide, rfl⟩))))) rfl dJ21_add_2_2 ?_
    rw [show Int32.ofNat (lcp L.length) = nI (lcp L.length) from rfl]
    first | refine g_icmpN_ne (tgt := 11) dJ21_add_2_3 (by decide) (by omega) (by omega) (fun c_3 => ?_) (fun c_3 => ?_) | refine g_icmpU_ne (tgt := 11) dJ21_add_2_3 (by decide) (by omega) (by omega) (fun c_3 => ?_) (fun c_3 => ?_) | refine g_icmp_ne (tgt := 11) dJ21_add_2_3 (by decide) (fun c_3 => ?_) (fun c_3 => ?_)
    · have hs := lcp_step h32 hn0 c_3
      rw [← hs.2] at a3
      exact K h arr f 0 0 (by omega) (by omega) a1 a3 a4 he Fr.rf
    · exact G (Or.inr (lcp_full h32 c_3))
abbrev mJ21_add : GM := (yJ21_add, 2, (some .boolean), [], { frames := 6, cells := 1, slots := 64, locals := 170 }, 255)
theorem uJ21_add : gCu cJ21_add mJ21_add 1 := ⟨q997, q92, q999, ⟨by decide +kernel, by decide +kernel, by decide +kernel⟩, rfl⟩
set_option maxHeartbeats 400000 in
theorem ctJ21_add {E : GE} {h : AH} {t l e : Nat} {L : List Nat} (hl : LI E t h l L) (h32 : L.length ≤ 31) (hel : ∀ y ∈ L, gOb E h y) (he : gOb E h e) : Ct E cJ21_add mJ21_add [.ref l, .ref e] (h) (pN fun r h' => r = 1 ∧ LI E t h' l (L ++ [e]) ∧ Fr (fun u => u = t ∨ u = t + 1) h h') (noX) := by
  refine g_enter (own := "java/util/ArrayList") [some (.ref l), some (.ref e)] (by decide +kernel) rfl rfl (Nat.le_of_ble_eq_true rfl) rfl rfl (fun X => ?_)
  obtain ⟨h0, arr, mc, a1, a2⟩ := hl
  first | refine g_aload0 dJ21_add_0 ?_ | refine g_aloadQ0 dJ21_add_0 ?_ | refine g_aloadN0 dJ21_add_0 ?_
  refine g_dup dJ21_add_1 rfl ?_
  refine g_getS (k0 := 0) (by first | assumption | exact g_up_self _ _ _ | (refine g_upf ?_ ?_ <;> assumption) | (refine g_upt ?_ ?_ (by decide) <;> assumption)) in_J21 q978 q979 rfl (by decide) rfl dJ21_add_2 ?_
  refine g_iconst (nI 1) dJ21_add_5 (by decide) ?_
  first | refine g_iaddN dJ21_add_6 ?_ | refine g_iadd dJ21_add_6 ?_
  refine g_putS (k0 := 0) (by first | assumption | exact g_up_self _ _ _ | (refine g_upf ?_ ?_ <;> assumption) | (refine g_upt ?_ ?_ (by decide) <;> assumption)) in_J21 q978 q979 tyJ21_ok nmJ21 rfl (by decide) rfl (by rfl) (by rfl) (Nat.le_of_ble_eq_true rfl) dJ21_add_7 ?_
  have b1 : LF E t (g_up h l (t, gO 9 [.int (mc + nI 1), .ref arr, .int (nI L.length)])) l L (mc + nI 1) arr := by
    refine ⟨g_up_self _ _ _, ?_⟩
    rcases a2 with a2 | ⟨a2, f, a3, a4⟩
    · exact Or.inl a2
    · exact Or.inr ⟨a2, f, g_upt a3 a1 (by omega), a4⟩
  have b2 : ∀ y, gOb E h y → gOb E (g_up h l (t, gO 9 [.int (mc + nI 1), .ref arr, .int (nI L.length)])) y := fun y hy => by
    obtain ⟨C, c1, c2⟩ := hy
    exact gOb.put a1 c1 c2
  have b3 : Fr (fun u => u = t ∨ u = t + 1) h (g_up h l (t, gO 9 [.int (mc + nI 1), .ref arr, .int (nI L.length)])) := Fr.put a1 (Or.inl rfl)
  first | refine g_aload0 dJ21_add_10 ?_ | refine g_aloadQ0 dJ21_add_10 ?_ | refine g_aloadN0 dJ21_add_10 ?_
  first | refine g_aload1 dJ21_add_11 ?_ | refine g_aloadQ1 dJ21_add_11 ?_ | refine g_aloadN1 dJ21_add_11 ?_
  first | refine g_aload0 dJ21_add_12 ?_ | refine g_aloadQ0 dJ21_add_12 ?_ | refine g_aloadN0 dJ21_add_12 ?_
  refine g_get (k0 := 1) (by first | assumption | exact g_up_self _ _ _ | (refine g_upf ?_ ?_ <;> assumption) | (refine g_upt ?_ ?_ (by decide) <;> assumption)) in_J21 q975 rfl (by decide) rfl dJ21_add_13 ?_
  first | refine g_aload0 dJ21_add_16 ?_ | refine g_aloadQ0 dJ21_add_16 ?_ | refine g_aloadN0 dJ21_add_16 ?_
  refine g_get (k0 := 2) (by first | assumption | exact g_up_self _ _ _ | (refine g_upf ?_ ?_ <;> assumption) | (refine g_upt ?_ ?_ (by decide) <;> assumption)) in_J21 q976 rfl (by decide) rfl dJ21_add_17 ?_
  refine g_callVR (ctJ21_add_2 b1 h32 (fun y hy => b2 y (hel y hy)) (b2 _ he)) kJ21_add_2 q1000 (gRv.g (g_up_self _ _ _) rfl rfl) (by decide) ⟨Nat.le_of_ble_eq_true rfl, Nat.le_of_ble_eq_true rfl⟩ rfl (Nat.le_of_ble_eq_true rfl) dJ21_add_20 k_x (k_v (fun h_20 p_20 => ?_))
  refine g_iconst (nI 1) dJ21_add_23 (by decide) ?_
  exact g_zret dJ21_add_24 rfl (nar_zb (by omega)) ⟨_, rfl, rfl, p_20.1, b3.tr p_20.2⟩
