/-! Integer, ArrayDeque, Arrays.fill -/
set_option maxRecDepth 100000
/-- the cache of Integers -/
def tmC : Term := .static "java/lang/Integer$IntegerCache" "cache" "[Ljava/lang/Integer;"
def bxO (E : GE) (y v : Nat) : Prop := OldO E "java/lang/Integer" y ∧ gOF E "java/lang/Integer" "value" "I" (.int (nI v)) y
/-- y is an Integer that holds v -/
def bx (E : GE) (h : AH) (y v : Nat) : Prop := h y = some (7, gO 8 [.int (nI v)]) ∨ bxO E y v
theorem bx.fr {E : GE} {h h' : AH} {y v : Nat} {P : Nat → Prop} (hb : bx E h y v) (hf : Fr P h h') (h7 : ¬ P 7) : bx E h' y v := hb.imp (fun z => hf _ _ _ z h7) id
theorem bx.rv {E : GE} {h : AH} {y v : Nat} (hb : bx E h y v) : gRv E h y "java/lang/Integer" := by
  rcases hb with hb | hb
  · exact gRv.g hb rfl rfl
  · exact Or.inr hb.1
theorem bx.ob {E : GE} {h : AH} {y v : Nat} (hb : bx E h y v) : gOb E h y := ⟨_, hb.rv, q2580⟩
theorem gE.ic {E : GE} (hE : gE E) : ∃ ad : Nat → Nat, gTb E (.object "java/lang/Integer") (stA E tmC) 256 (fun i => .ref (ad i)) ∧ ∀ v, v < 128 → bxO E (ad (v + 128)) v := by
  obtain ⟨ad, ⟨h1, h2⟩, h3⟩ := vb_Cof (A := gA E) (st := tmC) rfl (va_eqt (hE.nr (show Cond.eq (.length tmC) (.int (256 : Int32)) ∈ flatC _ by decide +kernel))) (hE.nr (show _ ∈ flatC _ by decide +kernel)) gE.out
  refine ⟨ad, (hE.tb (tm := tmC) (by decide) (show _ ∈ flatC _ by decide +kernel) (show _ ∈ flatC _ by decide +kernel) (fun j hj => h3 j hj)).2, fun v hv => ⟨?_, ?_⟩⟩
  · obtain ⟨cell, e1, e2, e3, -⟩ := h1 (v + 128) (by omega)
    exact ⟨cell, e1, e2, e3⟩
  · have e : va_OF "java/lang/Integer" "value" "I" (.int (vb_c (v + 128))) (ad (v + 128)) (gA E) E.S0 E.S0.heap := h2 (v + 128) (by omega)
    have e2 : vb_c (v + 128) = nI v := by
      show Int32.ofNat (v + 128) - 128 = Int32.ofNat v
      rw [Int32.ofNat_add, show Int32.ofNat 128 = (128 : Int32) from rfl, Int32.add_sub_cancel]
    rw [e2] at e
    exact e

theorem gE.ct {E : GE} (hE : gE E) : stV E tmC = some (.ref (stA E tmC)) := by
  obtain ⟨t, cell, ht, -, -⟩ := Term.length_spec (va_eqt (hE.nr (show Cond.eq (.length tmC) (.int (256 : Int32)) ∈ flatC _ by decide +kernel)))
  have e : stV E tmC = some (.ref t) := ht
  rw [stA_eq e]
  exact e
theorem gE.cz {E : GE} (hE : gE E) : va_Z "java/lang/Integer$IntegerCache" "cache" "[Ljava/lang/Integer;" (.ref (stA E tmC)) (gA E) E.S0 E.S0.heap := hE.zR hE.ct q806 (List.mem_filter.mp q99).1
theorem gE.ch {E : GE} (hE : gE E) : va_Z "java/lang/Integer$IntegerCache" "high" "I" (.int (nI 127)) (gA E) E.S0 E.S0.heap := hE.zI (show _ ∈ flatC _ by decide +kernel) q804 (List.mem_filter.mp q99).1
abbrev mJ16_init : GM := (yJ16_init, 1, none, [], { frames := 1, cells := 0, slots := 0, locals := 20 }, 255)
theorem kJ16_init : gCi cJ16_init mJ16_init 0 := ⟨q813, q86, q814, ⟨by decide +kernel, by decide +kernel, by decide +kernel⟩, rfl, rfl, rfl⟩
set_option maxHeartbeats 400000 in
theorem ctJ16_init {E : GE} {h : AH} (a : Nat)  : Ct E cJ16_init mJ16_init [.ref a] (h) (pV fun h' => h' = h) (noX) := by
  refine g_enter (own := "java/lang/Number") [some (.ref a)] (by decide +kernel) rfl rfl (Nat.le_of_ble_eq_true rfl) rfl rfl (fun X => ?_)
  first | refine g_aload0 dJ16_init_0 ?_ | refine g_aloadQ0 dJ16_init_0 ?_ | refine g_aloadN0 dJ16_init_0 ?_
  refine g_objInit q815 q129 q130 dJ16_init_1 (Nat.le_of_ble_eq_true rfl) (Nat.le_of_ble_eq_true rfl) ?_
  exact g_vret dJ16_init_4 rfl ⟨rfl, rfl⟩
abbrev mJ17_init : GM := (yJ17_init, 2, none, [], { frames := 2, cells := 0, slots := 0, locals := 40 }, 255)
theorem kJ17_init : gCi cJ17_init mJ17_init 1 := ⟨q810, q87, q811, ⟨by decide +kernel, by decide +kernel, by decide +kernel⟩, rfl, rfl, rfl⟩
set_option maxHeartbeats 400000 in
theorem ctJ17_init {E : GE} {h : AH} {a t : Nat} (v : Nat) (ha : h a = some (t, gO 8 [.int 0])) : Ct E cJ17_init mJ17_init [.ref a, .int (nI v)] (h) (pV fun h' => h' = g_up h a (t, gO 8 [.int (nI v)])) (noX) := by
  refine g_enter (own := "java/lang/Integer") [some (.ref a), some (.int (nI v))] (by decide +kernel) rfl rfl (Nat.le_of_ble_eq_true rfl) rfl rfl (fun X => ?_)
  first | refine g_aload0 dJ17_init_0 ?_ | refine g_aloadQ0 dJ17_init_0 ?_ | refine g_aloadN0 dJ17_init_0 ?_
  refine g_callI (ctJ16_init _) kJ16_init q812 (by decide) ⟨Nat.le_of_ble_eq_true rfl, Nat.le_of_ble_eq_true rfl⟩ rfl (Nat.le_of_ble_eq_true rfl) dJ17_init_1 k_x (k_v (fun h_1 p_1 => ?_))
  subst p_1
  first | refine g_aload0 dJ17_init_4 ?_ | refine g_aloadQ0 dJ17_init_4 ?_ | refine g_aloadN0 dJ17_init_4 ?_
  refine g_iload1 dJ17_init_5 ?_
  refine g_putF (k0 := 0) (by first | assumption | exact g_up_self _ _ _ | (refine g_upf ?_ ?_ <;> assumption) | (refine g_upt ?_ ?_ (by decide) <;> assumption)) in_J17 q816 tyJ17_ok nmJ17 rfl (by decide) rfl rfl rfl (by rfl) (by rfl) (Nat.le_of_ble_eq_true rfl) dJ17_init_6 ?_
  exact g_vret dJ17_init_9 rfl ⟨rfl, rfl⟩
theorem nlt_neg {v : Nat} (hv : v < 2147483648) : ¬ nI v < nI 4294967168 := fun z => by
  have h1 := Int32.lt_iff_toInt_lt.mp z
  rw [show (nI 4294967168).toInt = -128 from rfl, nI_toInt hv] at h1
  omega
abbrev mJ17_valueOf : GM := (yJ17_valueOf, 1, (some (.object "java/lang/Integer")), [], { frames := 3, cells := 1, slots := 1, locals := 61 }, 255)
theorem kJ17_valueOf : gCs cJ17_valueOf mJ17_valueOf 1 := ⟨q801, q87, q802, ⟨by decide +kernel, by decide +kernel, by decide +kernel⟩, rfl⟩
set_option maxHeartbeats 400000 in
theorem ctJ17_valueOf {E : GE} {h : AH} (v : Nat) (hv : v < 2147483648) : Ct E cJ17_valueOf mJ17_valueOf [.int (nI v)] (h) (pR fun r h' => bx E h' r v ∧ Fr F0r h h') (noX) := by
  refine g_enter (own := "java/lang/Integer") [some (.int (nI v))] (by decide +kernel) rfl rfl (Nat.le_of_ble_eq_true rfl) rfl rfl (fun X => ?_)
  refine V.hE (fun hE => ?_)
  obtain ⟨ad, had, hbx⟩ := hE.ic
  refine g_iload0 dJ17_valueOf_0 ?_
  refine g_bipush (nI 4294967168) dJ17_valueOf_1 (by decide) ?_
  refine g_icmp_lt (tgt := 23) dJ17_valueOf_3 (by decide) (fun c => absurd c (nlt_neg hv)) (fun _ => ?_)
  refine g_iload0 dJ17_valueOf_6 ?_
  refine g_gets (ref := "java/lang/Integer$IntegerCache") hE.ch q803 dJ17_valueOf_7 ?_
  first | refine g_icmpN_gt (tgt := 23) dJ17_valueOf_10 (by decide) (by omega) (by omega) (fun c_10 => ?_) (fun c_10 => ?_) | refine g_icmp_gt (tgt := 23) dJ17_valueOf_10 (by decide) (fun c_10 => ?_) (fun c_10 => ?_)
  · refine g_new 8 (7) [.int 0] in_J17 tyJ17_ok q807 q808 q87 rfl nwJ17 (Nat.le_of_ble_eq_true rfl) (Nat.le_of_ble_eq_true rfl) dJ17_valueOf_23 (fun q_23 f_23 => ?_)
    refine g_dup dJ17_valueOf_26 rfl ?_
    refine g_iload0 dJ17_valueOf_27 ?_
    refine g_callI (ctJ17_init _ (g_up_self _ _ _)) kJ17_init q809 (by decide) ⟨Nat.le_of_ble_eq_true rfl, Nat.le_of_ble_eq_true rfl⟩ rfl (Nat.le_of_ble_eq_true rfl) dJ17_valueOf_28 k_x (k_v (fun h_28 p_28 => ?_))
    subst p_28
    rw [g_upup]
    exact g_aret dJ17_valueOf_31 rfl (Or.inl ⟨_, rfl⟩) ⟨_, rfl, by first | exact ⟨Or.inr (hbx v (by omega)), Fr.rf⟩ | exact ⟨Or.inl (g_up_self _ _ _), Fr.new f_23⟩⟩
  · refine g_gets (ref := "java/lang/Integer$IntegerCache") hE.cz q805 dJ17_valueOf_13 ?_
    refine g_iload0 dJ17_valueOf_16 ?_
    refine g_sipush (nI 128) dJ17_valueOf_17 (by decide) ?_
    first | refine g_iaddN dJ17_valueOf_20 ?_ | refine g_iadd dJ17_valueOf_20 ?_
    refine g_tq had (by omega) (by omega) dJ17_valueOf_21 ?_
    exact g_aret dJ17_valueOf_22 rfl (Or.inl ⟨_, rfl⟩) ⟨_, rfl, by first | exact ⟨Or.inr (hbx v (by omega)), Fr.rf⟩ | exact ⟨Or.inl (g_up_self _ _ _), Fr.new f_23⟩⟩
section GR8
variable {E : GE} {cc : ByteArray} {own : String} {M : GM} {Po : Option Value → AH → Prop} {Px : String → Nat → AH → Prop} {X : GX} {h : AH} {k n pc : Nat} {ls : List (Option Value)} {st : List Value}
theorem g_ckR {index a : Nat} {C : String} (hlk : Cond.classLink own index C ∈ lw_all) (hr : gRv E h a C) (d : decode cc pc = .ok (.checkcast index, 3)) (kk : V E cc own M Po Px X h k n (pc + 3) ls (.ref a :: st)) : V E cc own M Po Px X h k n pc ls (.ref a :: st) := fun O H locs la hI hS hl hL => va_castE O.hx O.hb O.hown (O.hts _ hlk) (O.rv hI hr) d (kk O H locs la hI hS hl hL)
end GR8
abbrev mJ17_intValue : GM := (yJ17_intValue, 1, (some .int), [], { frames := 0, cells := 0, slots := 0, locals := 0 }, 255)
theorem kJ17_intValue : gCv cJ17_intValue mJ17_intValue 0 := ⟨q797, q798, q87, q799, ⟨by decide +kernel, by decide +kernel, by decide +kernel⟩, rfl⟩
theorem uJ17_intValue : gCu cJ17_intValue mJ17_intValue 0 := ⟨q797, q87, q799, ⟨by decide +kernel, by decide +kernel, by decide +kernel⟩, rfl⟩
set_option maxHeartbeats 400000 in
theorem ctJ17_intValue {E : GE} {h : AH} {a v : Nat} (hb : bx E h a v) : Ct E cJ17_intValue mJ17_intValue [.ref a] (h) (pN fun r h' => r = (v) ∧ h' = h) (noX) := by
  refine g_enter (own := "java/lang/Integer") [some (.ref a)] (by decide +kernel) rfl rfl (Nat.le_of_ble_eq_true rfl) rfl rfl (fun X => ?_)
  rcases hb with ha | hb
  · skip
    first | refine g_aload0 dJ17_intValue_0 ?_ | refine g_aloadQ0 dJ17_intValue_0 ?_ | refine g_aloadN0 dJ17_intValue_0 ?_
    refine g_get (k0 := 0) (by first | assumption | exact g_up_self _ _ _ | (refine g_upf ?_ ?_ <;> assumption) | (refine g_upt ?_ ?_ (by decide) <;> assumption)) in_J17 q816 rfl (by decide) rfl dJ17_intValue_1 ?_
    exact g_iret dJ17_intValue_4 rfl ⟨_, rfl, rfl, rfl⟩
  · skip
    first | refine g_aload0 dJ17_intValue_0 ?_ | refine g_aloadQ0 dJ17_intValue_0 ?_ | refine g_aloadN0 dJ17_intValue_0 ?_
    refine g_getO (o := "java/lang/Integer") hb.2 q816 (fun _ z => z) dJ17_intValue_1 rfl ?_
    exact g_iret dJ17_intValue_4 rfl ⟨_, rfl, rfl, rfl⟩
/-- a deque at d (tags t, t + 1), its cells told -/
def DX (E : GE) (t : Nat) (h : AH) (d : Nat) (W : List Nat) (arr N hd : Nat) (f : Nat → Option Nat) : Prop := h d = some (t, gO 5 [.ref arr, .int (nI hd), .int (nI ((hd + W.length) % N))]) ∧ h arr = some (t + 1, gAR E 5 N f) ∧ (N = 17 ∨ N = 36) ∧ hd < N ∧ W.length < N ∧ W.length ≤ 20 ∧ ∀ (k v : Nat), W[k]? = some v → ∃ y, f ((hd + k) % N) = some y ∧ bx E h y v
/-- a deque of Integers, the first ahead -/
def DQ (E : GE) (t : Nat) (h : AH) (d : Nat) (W : List Nat) : Prop := ∃ arr N hd f, DX E t h d W arr N hd f
theorem DX.fr {E : GE} {t : Nat} {h h' : AH} {d : Nat} {W : List Nat} {arr N hd : Nat} {f : Nat → Option Nat} {P : Nat → Prop} (hx : DX E t h d W arr N hd f) (hf : Fr P h h') (h1 : ¬ P t) (h2 : ¬ P (t + 1)) (h7 : ¬ P 7) : DX E t h' d W arr N hd f := by
  obtain ⟨a1, a2, a3, a4, a5, a6, a7⟩ := hx
  refine ⟨hf _ _ _ a1 h1, hf _ _ _ a2 h2, a3, a4, a5, a6, fun k v z => ?_⟩
  obtain ⟨y, b1, b2⟩ := a7 k v z
  exact ⟨y, b1, b2.fr hf h7⟩
theorem DQ.fr {E : GE} {t : Nat} {h h' : AH} {d : Nat} {W : List Nat} {P : Nat → Prop} (hx : DQ E t h d W) (hf : Fr P h h') (h1 : ¬ P t) (h2 : ¬ P (t + 1)) (h7 : ¬ P 7) : DQ E t h' d W := by
  obtain ⟨arr, N, hd, f, z⟩ := hx
  exact ⟨arr, N, hd, f, z.fr hf h1 h2 h7⟩
theorem DQ.rv {E : GE} {t : Nat} {h : AH} {d : Nat} {W : List Nat} (hx : DQ E t h d W) : gRv E h d "java/util/ArrayDeque" := by
  obtain ⟨arr, N, hd, f, z⟩ := hx
  exact gRv.g z.1 rfl rfl
theorem DX.rv {E : GE} {t : Nat} {h : AH} {d : Nat} {W : List Nat} {arr N hd : Nat} {f : Nat → Option Nat} (z : DX E t h d W arr N hd f) : gRv E h d "java/util/ArrayDeque" := gRv.g z.1 rfl rfl
abbrev mJ1_init : GM := (yJ1_init, 1, none, [], { frames := 2, cells := 1, slots := 17, locals := 40 }, 255)
theorem kJ1_init : gCi cJ1_init mJ1_init 0 := ⟨q142, q70, q143, ⟨by decide +kernel, by decide +kernel, by decide +kernel⟩, rfl, rfl, rfl⟩
set_option maxHeartbeats 400000 in
theorem ctJ1_init {E : GE} {h : AH} {d : Nat} (t : Nat) (ha : h d = some (t, gO 5 [.null, .int 0, .int 0])) : Ct E cJ1_init mJ1_init [.ref d] (h) (pV fun h' => ∃ q, h q = none ∧ h' = g_up (g_up h q (t + 1, gAR E 5 17 (fun _ => none))) d (t, gO 5 [.ref q, .int 0, .int 0])) (noX) := by
  refine g_enter (own := "java/util/ArrayDeque") [some (.ref d)] (by decide +kernel) rfl rfl (Nat.le_of_ble_eq_true rfl) rfl rfl (fun X => ?_)
  first | refine g_aload0 dJ1_init_0 ?_ | refine g_aloadQ0 dJ1_init_0 ?_ | refine g_aloadN0 dJ1_init_0 ?_
  refine g_callI (ctJ0_init _) kJ0_init q144 (by decide) ⟨Nat.le_of_ble_eq_true rfl, Nat.le_of_ble_eq_true rfl⟩ rfl (Nat.le_of_ble_eq_true rfl) dJ1_init_1 k_x (k_v (fun h_1 p_1 => ?_))
  subst p_1
  first | refine g_aload0 dJ1_init_4 ?_ | refine g_aloadQ0 dJ1_init_4 ?_ | refine g_aloadN0 dJ1_init_4 ?_
  refine g_bipush (nI 17) dJ1_init_5 (by decide) ?_
  refine g_newR (j := 5) (t + 1) q148 q149 rfl (by omega) (Nat.le_of_ble_eq_true rfl) (Nat.le_of_ble_eq_true rfl) dJ1_init_7 (fun q_7 f_7 => ?_)
  have ha2 := g_upf (z := (t + 1, gAR E 5 17 (fun _ => none))) ha f_7
  refine g_put (k0 := 0) (by first | assumption | exact g_up_self _ _ _ | (refine g_upf ?_ ?_ <;> assumption) | (refine g_upt ?_ ?_ (by decide) <;> assumption)) in_J1 q150 tyJ1_ok nmJ1 rfl (by decide) rfl (by rfl) (by rfl) (Nat.le_of_ble_eq_true rfl) dJ1_init_10 ?_
  exact g_vret dJ1_init_13 rfl ⟨rfl, _, f_7, rfl⟩
theorem DX.nil {E : GE} {t : Nat} {h : AH} {d q : Nat} (hn : d ≠ q) : DX E t (g_up (g_up h q (t + 1, gAR E 5 17 (fun _ => none))) d (t, gO 5 [.ref q, .int 0, .int 0])) d [] q 17 0 (fun _ => none) := ⟨g_up_self _ _ _, g_up_of (g_up_self _ _ _) (fun z => hn z.symm), Or.inl rfl, by decide, by decide, by decide, fun k v z => by simp at z⟩
theorem sb_36 : ∀ i, i < 36 → ∀ j, j < 36 → i < j → ¬ (0 : Int32) ≤ nI i - nI j ∧ nI i - nI j + nI 36 = nI (i + 36 - j) ∧ (j < 17 → nI i - nI j + nI 17 = nI (i + 17 - j)) := by decide +kernel
theorem not_ge_sub {i j N : Nat} (hN : N = 17 ∨ N = 36) (hj : j < N) (h : i < j) : ¬ (0 : Int32) ≤ nI i - nI j := (sb_36 i (by omega) j (by omega) h).1
theorem sub_addN {i j N : Nat} (hN : N = 17 ∨ N = 36) (hj : j < N) (h : i < j) : nI i - nI j + nI N = nI (i + N - j) := by
  rcases hN with rfl | rfl
  · exact (sb_36 i (by omega) j (by omega) h).2.2 hj
  · exact (sb_36 i (by omega) j (by omega) h).2.1
abbrev mJ1_sub : GM := (yJ1_sub, 3, (some .int), [], { frames := 0, cells := 0, slots := 0, locals := 0 }, 255)
theorem kJ1_sub : gCs cJ1_sub mJ1_sub 3 := ⟨q734, q70, q735, ⟨by decide +kernel, by decide +kernel, by decide +kernel⟩, rfl⟩
set_option maxHeartbeats 400000 in
theorem ctJ1_sub {E : GE} {h : AH} (i j N : Nat) (hN : N = 17 ∨ N = 36) (hi : i < N) (hj : j < N) : Ct E cJ1_sub mJ1_sub [.int (nI i), .int (nI j), .int (nI N)] (h) (pN fun r h' => r = ((i + N - j) % N) ∧ h' = h) (noX) := by
  refine g_enter (own := "java/util/ArrayDeque") [some (.int (nI i)), some (.int (nI j)), some (.int (nI N))] (by decide +kernel) rfl rfl (Nat.le_of_ble_eq_true rfl) rfl rfl (fun X => ?_)
  by_cases hij : j ≤ i
  · have e : (i + N - j) % N = i - j := by rcases hN with rfl | rfl <;> omega
    rw [e]
    refine g_iload0 dJ1_sub_0 ?_
    refine g_iload1 dJ1_sub_1 ?_
    first | refine g_isubN dJ1_sub_2 (by omega) ?_ | refine g_isub dJ1_sub_2 ?_
    refine g_dup dJ1_sub_3 rfl ?_
    refine g_istore0 dJ1_sub_4 (by decide) ?_
    first | refine g_ifN_ge (tgt := 12) dJ1_sub_5 (by decide) (by omega) (fun c_5 => ?_) (fun c_5 => ?_) | refine g_if_ge (tgt := 12) dJ1_sub_5 (by decide) (fun c_5 => ?_) (fun c_5 => ?_)
    · refine g_iload0 dJ1_sub_12 ?_
      exact g_iret dJ1_sub_13 rfl ⟨_, rfl, rfl, rfl⟩
    · omega
  · have e : (i + N - j) % N = i + N - j := by rcases hN with rfl | rfl <;> omega
    rw [e]
    refine g_iload0 dJ1_sub_0 ?_
    refine g_iload1 dJ1_sub_1 ?_
    refine g_isub dJ1_sub_2 ?_
    refine g_dup dJ1_sub_3 rfl ?_
    refine g_istore0 dJ1_sub_4 (by decide) ?_
    refine g_if_ge (tgt := 12) dJ1_sub_5 (by decide) (fun c => absurd c (not_ge_sub hN hj (by omega))) (fun _ => ?_)
    refine g_iload0 dJ1_sub_8 ?_
    refine g_iload2 dJ1_sub_9 ?_
    refine g_iadd dJ1_sub_10 ?_
    rw [sub_addN hN hj (by omega)]
    refine g_istore0 dJ1_sub_11 (by decide) ?_
    refine g_iload0 dJ1_sub_12 ?_
    exact g_iret dJ1_sub_13 rfl ⟨_, rfl, rfl, rfl⟩
abbrev mJ1_inc : GM := (yJ1_inc, 2, (some .int), [], { frames := 0, cells := 0, slots := 0, locals := 0 }, 255)
theorem kJ1_inc : gCs cJ1_inc mJ1_inc 2 := ⟨q793, q70, q794, ⟨by decide +kernel, by decide +kernel, by decide +kernel⟩, rfl⟩
set_option maxHeartbeats 400000 in
theorem ctJ1_inc {E : GE} {h : AH} (i N : Nat) (hN : N = 17 ∨ N = 36) (hi : i < N) : Ct E cJ1_inc mJ1_inc [.int (nI i), .int (nI N)] (h) (pN fun r h' => r = ((i + 1) % N) ∧ h' = h) (noX) := by
  refine g_enter (own := "java/util/ArrayDeque") [some (.int (nI i)), some (.int (nI N))] (by decide +kernel) rfl rfl (Nat.le_of_ble_eq_true rfl) rfl rfl (fun X => ?_)
  have e : (i + 1) % N = if i + 1 < N then i + 1 else 0 := by rcases hN with rfl | rfl <;> split <;> omega
  first | refine g_iincN0 1 dJ1_inc_0 (by decide) (by decide) ?_ | refine g_iinc0 _ dJ1_inc_0 rfl (by decide) ?_
  refine g_iload0 dJ1_inc_3 ?_
  refine g_iload1 dJ1_inc_4 ?_
  first | refine g_icmpN_lt (tgt := 10) dJ1_inc_5 (by decide) (by omega) (by omega) (fun c_5 => ?_) (fun c_5 => ?_) | refine g_icmp_lt (tgt := 10) dJ1_inc_5 (by decide) (fun c_5 => ?_) (fun c_5 => ?_)
  · refine g_iload0 dJ1_inc_10 ?_
    exact g_iret dJ1_inc_11 rfl ⟨_, rfl, by rw [e]; first | rw [if_pos c_5] | rw [if_neg c_5], rfl⟩
  · refine g_iconst (nI 0) dJ1_inc_8 (by decide) ?_
    refine g_istore0 dJ1_inc_9 (by decide) ?_
    refine g_iload0 dJ1_inc_10 ?_
    exact g_iret dJ1_inc_11 rfl ⟨_, rfl, by rw [e]; first | rw [if_pos c_5] | rw [if_neg c_5], rfl⟩
abbrev mJ1_size : GM := (yJ1_size, 1, (some .int), [], { frames := 1, cells := 0, slots := 0, locals := 22 }, 255)
theorem kJ1_size : gCv cJ1_size mJ1_size 0 := ⟨q730, q731, q70, q732, ⟨by decide +kernel, by decide +kernel, by decide +kernel⟩, rfl⟩
theorem uJ1_size : gCu cJ1_size mJ1_size 0 := ⟨q730, q70, q732, ⟨by decide +kernel, by decide +kernel, by decide +kernel⟩, rfl⟩
set_option maxHeartbeats 400000 in
theorem ctJ1_size {E : GE} {h : AH} {t d : Nat} {W : List Nat} {arr N hd : Nat} {f : Nat → Option Nat} (hx : DX E t h d W arr N hd f) : Ct E cJ1_size mJ1_size [.ref d] (h) (pN fun r h' => r = (W.length) ∧ h' = h) (noX) := by
  refine g_enter (own := "java/util/ArrayDeque") [some (.ref d)] (by decide +kernel) rfl rfl (Nat.le_of_ble_eq_true rfl) rfl rfl (fun X => ?_)
  obtain ⟨a1, a2, hN, a4, a5, a6, a7⟩ := hx
  have hm : (hd + W.length) % N < N := Nat.mod_lt _ (by omega)
  have e : ((hd + W.length) % N + N - hd) % N = W.length := by rcases hN with rfl | rfl <;> omega
  first | refine g_aload0 dJ1_size_0 ?_ | refine g_aloadQ0 dJ1_size_0 ?_ | refine g_aloadN0 dJ1_size_0 ?_
  refine g_get (k0 := 2) (by first | assumption | exact g_up_self _ _ _ | (refine g_upf ?_ ?_ <;> assumption) | (refine g_upt ?_ ?_ (by decide) <;> assumption)) in_J1 q154 rfl (by decide) rfl dJ1_size_1 ?_
  first | refine g_aload0 dJ1_size_4 ?_ | refine g_aloadQ0 dJ1_size_4 ?_ | refine g_aloadN0 dJ1_size_4 ?_
  refine g_get (k0 := 1) (by first | assumption | exact g_up_self _ _ _ | (refine g_upf ?_ ?_ <;> assumption) | (refine g_upt ?_ ?_ (by decide) <;> assumption)) in_J1 q153 rfl (by decide) rfl dJ1_size_5 ?_
  first | refine g_aload0 dJ1_size_8 ?_ | refine g_aloadQ0 dJ1_size_8 ?_ | refine g_aloadN0 dJ1_size_8 ?_
  refine g_get (k0 := 0) (by first | assumption | exact g_up_self _ _ _ | (refine g_upf ?_ ?_ <;> assumption) | (refine g_upt ?_ ?_ (by decide) <;> assumption)) in_J1 q150 rfl (by decide) rfl dJ1_size_9 ?_
  refine g_alen (by first | assumption | exact g_up_self _ _ _ | (refine g_upf ?_ ?_ <;> assumption) | (refine g_upt ?_ ?_ (by decide) <;> assumption)) (by first | exact Or.inl ⟨_, rfl⟩ | exact Or.inr (Or.inr (Or.inl ⟨_, rfl⟩)) | exact Or.inr (Or.inr (Or.inr (Or.inl ⟨_, rfl⟩))) | exact Or.inr (Or.inr (Or.inr (Or.inr (Or.inr ⟨_, _, by decide, by decide, rfl⟩))))) rfl dJ1_size_12 ?_
  rw [show Int32.ofNat N = nI N from rfl]
  refine g_callS (ctJ1_sub _ _ _ (by assumption) (by omega) (by omega)) kJ1_sub q733 (by decide) ⟨Nat.le_of_ble_eq_true rfl, Nat.le_of_ble_eq_true rfl⟩ rfl (Nat.le_of_ble_eq_true rfl) dJ1_size_13 k_x (k_n (fun r_13 h_13 p_13 => ?_))
  obtain ⟨rfl, z_13⟩ := p_13
  rw [z_13]
  exact g_iret dJ1_size_16 rfl ⟨_, rfl, e, rfl⟩
abbrev mJ1_elementAt : GM := (yJ1_elementAt, 2, (some (.object "java/lang/Object")), [], { frames := 0, cells := 0, slots := 0, locals := 0 }, 255)
theorem kJ1_elementAt : gCs cJ1_elementAt mJ1_elementAt 2 := ⟨q1119, q70, q1120, ⟨by decide +kernel, by decide +kernel, by decide +kernel⟩, rfl⟩
set_option maxHeartbeats 400000 in
theorem ctJ1_elementAt {E : GE} {h : AH} {t arr N i y : Nat} {f : Nat → Option Nat} (ha : h arr = some (t, gAR E 5 N f)) (hN : N = 17 ∨ N = 36) (hi : i < N) (hy : f i = some y) : Ct E cJ1_elementAt mJ1_elementAt [.ref arr, .int (nI i)] (h) (pR fun r h' => r = y ∧ h' = h) (noX) := by
  refine g_enter (own := "java/util/ArrayDeque") [some (.ref arr), some (.int (nI i))] (by decide +kernel) rfl rfl (Nat.le_of_ble_eq_true rfl) rfl rfl (fun X => ?_)
  first | refine g_aload0 dJ1_elementAt_0 ?_ | refine g_aloadQ0 dJ1_elementAt_0 ?_ | refine g_aloadN0 dJ1_elementAt_0 ?_
  refine g_iload1 dJ1_elementAt_1 ?_
  refine g_aald (by first | assumption | exact g_up_self _ _ _ | (refine g_upf ?_ ?_ <;> assumption) | (refine g_upt ?_ ?_ (by decide) <;> assumption)) rfl (by omega) (by omega) dJ1_elementAt_2 ?_
  rw [hy]
  exact g_aret dJ1_elementAt_3 rfl (Or.inl ⟨_, rfl⟩) ⟨_, rfl, rfl, rfl⟩
abbrev mJ1_nonNullElementAt : GM := (yJ1_nonNullElementAt, 3, (some (.object "java/lang/Object")), [], { frames := 0, cells := 0, slots := 0, locals := 0 }, 255)
theorem kJ1_nonNullElementAt : gCs cJ1_nonNullElementAt mJ1_nonNullElementAt 2 := ⟨q790, q70, q791, ⟨by decide +kernel, by decide +kernel, by decide +kernel⟩, rfl⟩
set_option maxHeartbeats 400000 in
theorem ctJ1_nonNullElementAt {E : GE} {h : AH} {t arr N i y : Nat} {f : Nat → Option Nat} (ha : h arr = some (t, gAR E 5 N f)) (hN : N = 17 ∨ N = 36) (hi : i < N) (hy : f i = some y) : Ct E cJ1_nonNullElementAt mJ1_nonNullElementAt [.ref arr, .int (nI i)] (h) (pR fun r h' => r = y ∧ h' = h) (noX) := by
  refine g_enter (own := "java/util/ArrayDeque") [some (.ref arr), some (.int (nI i)), none] (by decide +kernel) rfl rfl (Nat.le_of_ble_eq_true rfl) rfl rfl (fun X => ?_)
  first | refine g_aload0 dJ1_nonNullElementAt_0 ?_ | refine g_aloadQ0 dJ1_nonNullElementAt_0 ?_ | refine g_aloadN0 dJ1_nonNullElementAt_0 ?_
  refine g_iload1 dJ1_nonNullElementAt_1 ?_
  refine g_aald (by first | assumption | exact g_up_self _ _ _ | (refine g_upf ?_ ?_ <;> assumption) | (refine g_upt ?_ ?_ (by decide) <;> assumption)) rfl (by omega) (by omega) dJ1_nonNullElementAt_2 ?_
  rw [hy]
  change V _ _ _ _ _ _ _ _ _ _ _ _ (Value.ref y :: _)
  first | refine g_astore2 dJ1_nonNullElementAt_3 (by decide) ?_ | refine g_astoreQ2 dJ1_nonNullElementAt_3 (by decide) ?_ | refine g_astoreN2 dJ1_nonNullElementAt_3 (by decide) ?_
  first | refine g_aload2 dJ1_nonNullElementAt_4 ?_ | refine g_aloadQ2 dJ1_nonNullElementAt_4 ?_ | refine g_aloadN2 dJ1_nonNullElementAt_4 ?_
  refine g_ifnonnullR (tgt := 16) dJ1_nonNullElementAt_5 (by decide) ?_
  first | refine g_aload2 dJ1_nonNullElementAt_16 ?_ | refine g_aloadQ2 dJ1_nonNullElementAt_16 ?_ | refine g_aloadN2 dJ1_nonNullElementAt_16 ?_
  exact g_aret dJ1_nonNullElementAt_17 rfl (Or.inl ⟨_, rfl⟩) ⟨_, rfl, rfl, rfl⟩
theorem tf7 {t : Nat} (ht : 8 < t) : ¬ (7 = t ∨ 7 = t + 1) := by omega
theorem DX.tail {E : GE} {t : Nat} {h : AH} {d : Nat} {v : Nat} {W : List Nat} {arr N hd : Nat} {f : Nat → Option Nat} (ht : 8 < t) (hx : DX E t h d (v :: W) arr N hd f) : DX E t (g_up (g_up h arr (t + 1, gAR E 5 N (nup f hd none))) d (t, gO 5 [.ref arr, .int (nI ((hd + 1) % N)), .int (nI ((hd + (v :: W).length) % N))])) d W arr N ((hd + 1) % N) (nup f hd none) := by
  obtain ⟨a1, a2, hN, a4, a5, a6, a7⟩ := hx
  have b1 : g_up h arr (t + 1, gAR E 5 N (nup f hd none)) d = some (t, gO 5 [.ref arr, .int (nI hd), .int (nI ((hd + (v :: W).length) % N))]) := g_upt a1 a2 (by omega)
  rw [List.length_cons] at a5 a6
  refine ⟨?_, g_upt (g_up_self _ _ _) b1 (by omega), hN, Nat.mod_lt _ (by omega), by omega, by omega, fun k w z => ?_⟩
  · rw [g_up_self, List.length_cons, show (hd + (W.length + 1)) % N = ((hd + 1) % N + W.length) % N by rcases hN with rfl | rfl <;> omega]
  · obtain ⟨y, c1, c2⟩ := a7 (k + 1) w z
    have hk : k < W.length := (List.getElem?_eq_some_iff.mp z).1
    have e1 : ((hd + 1) % N + k) % N = (hd + (k + 1)) % N := by rcases hN with rfl | rfl <;> omega
    have e2 : (hd + (k + 1)) % N ≠ hd := by rcases hN with rfl | rfl <;> omega
    refine ⟨y, ?_, ?_⟩
    · rw [e1, nup_ne _ _ e2]
      exact c1
    · exact bx.fr (P := fun u => u = t ∨ u = t + 1) (bx.fr (P := fun u => u = t ∨ u = t + 1) c2 (Fr.put a2 (Or.inr rfl)) (tf7 ht)) (Fr.put b1 (Or.inl rfl)) (tf7 ht)
theorem DX.push {E : GE} {t : Nat} {h : AH} {d e : Nat} {v : Nat} {W : List Nat} {arr N hd : Nat} {f : Nat → Option Nat} (ht : 8 < t) (hx : DX E t h d W arr N hd f) (he : bx E h e v) (hl : W.length ≤ 19) (hn : W.length + 1 < N) : DX E t (g_up (g_up h arr (t + 1, gAR E 5 N (nup f ((hd + W.length) % N) (some e)))) d (t, gO 5 [.ref arr, .int (nI hd), .int (nI (((hd + W.length) % N + 1) % N))])) d (W ++ [v]) arr N hd (nup f ((hd + W.length) % N) (some e)) := by
  obtain ⟨a1, a2, hN, a4, a5, a6, a7⟩ := hx
  have b1 : g_up h arr (t + 1, gAR E 5 N (nup f ((hd + W.length) % N) (some e))) d = some (t, gO 5 [.ref arr, .int (nI hd), .int (nI ((hd + W.length) % N))]) := g_upt a1 a2 (by omega)
  have hla : (W ++ [v]).length = W.length + 1 := by rw [List.length_append, List.length_singleton]
  have fr : ∀ y w, bx E h y w → bx E (g_up (g_up h arr (t + 1, gAR E 5 N (nup f ((hd + W.length) % N) (some e)))) d (t, gO 5 [.ref arr, .int (nI hd), .int (nI (((hd + W.length) % N + 1) % N))])) y w := fun y w c2 => bx.fr (P := fun u => u = t ∨ u = t + 1) (bx.fr (P := fun u => u = t ∨ u = t + 1) c2 (Fr.put a2 (Or.inr rfl)) (tf7 ht)) (Fr.put b1 (Or.inl rfl)) (tf7 ht)
  refine ⟨?_, g_upt (g_up_self _ _ _) b1 (by omega), hN, a4, by omega, by omega, fun k w z => ?_⟩
  · rw [g_up_self, hla, show ((hd + W.length) % N + 1) % N = (hd + (W.length + 1)) % N by rcases hN with rfl | rfl <;> omega]
  · by_cases hk : k < W.length
    · rw [List.getElem?_append_left hk] at z
      obtain ⟨y, c1, c2⟩ := a7 k w z
      refine ⟨y, ?_, fr _ _ c2⟩
      rw [nup_ne _ _ (show (hd + k) % N ≠ (hd + W.length) % N by rcases hN with rfl | rfl <;> omega)]
      exact c1
    · have hk2 : k < (W ++ [v]).length := (List.getElem?_eq_some_iff.mp z).1
      obtain rfl : k = W.length := by omega
      rw [List.getElem?_append_right (Nat.le_refl _), Nat.sub_self] at z
      cases z
      exact ⟨e, nup_self _ _ _, fr _ _ he⟩
abbrev mJ1_pollFirst : GM := (yJ1_pollFirst, 4, (some (.object "java/lang/Object")), [], { frames := 1, cells := 0, slots := 0, locals := 21 }, 255)
theorem kJ1_pollFirst : gCv cJ1_pollFirst mJ1_pollFirst 0 := ⟨q1115, q1116, q70, q1117, ⟨by decide +kernel, by decide +kernel, by decide +kernel⟩, rfl⟩
theorem uJ1_pollFirst : gCu cJ1_pollFirst mJ1_pollFirst 0 := ⟨q1115, q70, q1117, ⟨by decide +kernel, by decide +kernel, by decide +kernel⟩, rfl⟩
set_option maxHeartbeats 400000 in
theorem ctJ1_pollFirst {E : GE} {h : AH} {t d v : Nat} {W : List Nat} {arr N hd : Nat} {f : Nat → Option Nat} (ht : 8 < t) (hx : DX E t h d (v :: W) arr N hd f) : Ct E cJ1_pollFirst mJ1_pollFirst [.ref d] (h) (pR fun r h' => DQ E t h' d W ∧ Fr (fun u => u = t ∨ u = t + 1) h h') (noX) := by
  refine g_enter (own := "java/util/ArrayDeque") [some (.ref d), none, none, none] (by decide +kernel) rfl rfl (Nat.le_of_ble_eq_true rfl) rfl rfl (fun X => ?_)
  have hxx := hx
  obtain ⟨a1, a2, hN, a4, a5, a6, a7⟩ := hxx
  obtain ⟨y, c1, c2⟩ := a7 0 v rfl
  have e0 : (hd + 0) % N = hd := by rw [Nat.add_zero]; exact Nat.mod_eq_of_lt a4
  rw [e0] at c1
  first | refine g_aload0 dJ1_pollFirst_0 ?_ | refine g_aloadQ0 dJ1_pollFirst_0 ?_ | refine g_aloadN0 dJ1_pollFirst_0 ?_
  refine g_get (k0 := 0) (by first | assumption | exact g_up_self _ _ _ | (refine g_upf ?_ ?_ <;> assumption) | (refine g_upt ?_ ?_ (by decide) <;> assumption)) in_J1 q150 rfl (by decide) rfl dJ1_pollFirst_1 ?_
  refine g_dup dJ1_pollFirst_4 rfl ?_
  first | refine g_astore1 dJ1_pollFirst_5 (by decide) ?_ | refine g_astoreQ1 dJ1_pollFirst_5 (by decide) ?_ | refine g_astoreN1 dJ1_pollFirst_5 (by decide) ?_
  first | refine g_aload0 dJ1_pollFirst_6 ?_ | refine g_aloadQ0 dJ1_pollFirst_6 ?_ | refine g_aloadN0 dJ1_pollFirst_6 ?_
  refine g_get (k0 := 1) (by first | assumption | exact g_up_self _ _ _ | (refine g_upf ?_ ?_ <;> assumption) | (refine g_upt ?_ ?_ (by decide) <;> assumption)) in_J1 q153 rfl (by decide) rfl dJ1_pollFirst_7 ?_
  refine g_dup dJ1_pollFirst_10 rfl ?_
  refine g_istore2 dJ1_pollFirst_11 (by decide) ?_
  refine g_callS (ctJ1_elementAt (by assumption) (by assumption) (by omega) (by assumption)) kJ1_elementAt q1118 (by decide) ⟨Nat.le_of_ble_eq_true rfl, Nat.le_of_ble_eq_true rfl⟩ rfl (Nat.le_of_ble_eq_true rfl) dJ1_pollFirst_12 k_x (k_r (fun r_12 h_12 p_12 => ?_))
  obtain ⟨rfl, z_12⟩ := p_12
  rw [z_12]
  first | refine g_astore3 dJ1_pollFirst_15 (by decide) ?_ | refine g_astoreQ3 dJ1_pollFirst_15 (by decide) ?_ | refine g_astoreN3 dJ1_pollFirst_15 (by decide) ?_
  first | refine g_aload3 dJ1_pollFirst_16 ?_ | refine g_aloadQ3 dJ1_pollFirst_16 ?_ | refine g_aloadN3 dJ1_pollFirst_16 ?_
  refine g_ifnullR dJ1_pollFirst_17 ?_
  first | refine g_aload1 dJ1_pollFirst_20 ?_ | refine g_aloadQ1 dJ1_pollFirst_20 ?_ | refine g_aloadN1 dJ1_pollFirst_20 ?_
  refine g_iload2 dJ1_pollFirst_21 ?_
  refine g_null dJ1_pollFirst_22 ?_
  refine g_aastN a2 rfl (by omega) (by omega) dJ1_pollFirst_23 ?_
  have b1 : g_up h arr (t + 1, gAR E 5 N (nup f hd none)) d = some (t, gO 5 [.ref arr, .int (nI hd), .int (nI ((hd + (v :: W).length) % N))]) := g_upt a1 a2 (by omega)
  first | refine g_aload0 dJ1_pollFirst_24 ?_ | refine g_aloadQ0 dJ1_pollFirst_24 ?_ | refine g_aloadN0 dJ1_pollFirst_24 ?_
  refine g_iload2 dJ1_pollFirst_25 ?_
  first | refine g_aload1 dJ1_pollFirst_26 ?_ | refine g_aloadQ1 dJ1_pollFirst_26 ?_ | refine g_aloadN1 dJ1_pollFirst_26 ?_
  refine g_alen (g_up_self _ _ _) (Or.inr (Or.inr (Or.inr (Or.inr (Or.inr ⟨5, _, by decide, by decide, rfl⟩))))) rfl dJ1_pollFirst_27 ?_
  rw [show Int32.ofNat N = nI N from rfl]
  refine g_callS (ctJ1_inc _ _ (by assumption) (by first | omega | exact Nat.mod_lt _ (by omega))) kJ1_inc q824 (by decide) ⟨Nat.le_of_ble_eq_true rfl, Nat.le_of_ble_eq_true rfl⟩ rfl (Nat.le_of_ble_eq_true rfl) dJ1_pollFirst_28 k_x (k_n (fun r_28 h_28 p_28 => ?_))
  obtain ⟨rfl, z_28⟩ := p_28
  rw [z_28]
  refine g_put (k0 := 1) (by first | assumption | exact g_up_self _ _ _ | (refine g_upf ?_ ?_ <;> assumption) | (refine g_upt ?_ ?_ (by decide) <;> assumption)) in_J1 q153 tyJ1_ok nmJ1 rfl (by decide) rfl (by rfl) (by rfl) (Nat.le_of_ble_eq_true rfl) dJ1_pollFirst_31 ?_
  first | refine g_aload3 dJ1_pollFirst_34 ?_ | refine g_aloadQ3 dJ1_pollFirst_34 ?_ | refine g_aloadN3 dJ1_pollFirst_34 ?_
  exact g_aret dJ1_pollFirst_35 rfl (Or.inl ⟨_, rfl⟩) ⟨_, rfl, ⟨_, _, _, _, DX.tail ht hx⟩, (Fr.put a2 (Or.inr rfl)).put2 b1 (Or.inl rfl) rfl⟩
abbrev mJ1_removeFirst : GM := (yJ1_removeFirst, 2, (some (.object "java/lang/Object")), [], { frames := 2, cells := 0, slots := 0, locals := 44 }, 255)
theorem kJ1_removeFirst : gCv cJ1_removeFirst mJ1_removeFirst 0 := ⟨q1111, q1112, q70, q1113, ⟨by decide +kernel, by decide +kernel, by decide +kernel⟩, rfl⟩
theorem uJ1_removeFirst : gCu cJ1_removeFirst mJ1_removeFirst 0 := ⟨q1111, q70, q1113, ⟨by decide +kernel, by decide +kernel, by decide +kernel⟩, rfl⟩
set_option maxHeartbeats 400000 in
theorem ctJ1_removeFirst {E : GE} {h : AH} {t d v : Nat} {W : List Nat} (ht : 8 < t) (hq : DQ E t h d (v :: W)) : Ct E cJ1_removeFirst mJ1_removeFirst [.ref d] (h) (pR fun r h' => DQ E t h' d W ∧ Fr (fun u => u = t ∨ u = t + 1) h h') (noX) := by
  refine g_enter (own := "java/util/ArrayDeque") [some (.ref d), none] (by decide +kernel) rfl rfl (Nat.le_of_ble_eq_true rfl) rfl rfl (fun X => ?_)
  obtain ⟨arr, N, hd, f, hx⟩ := hq
  first | refine g_aload0 dJ1_removeFirst_0 ?_ | refine g_aloadQ0 dJ1_removeFirst_0 ?_ | refine g_aloadN0 dJ1_removeFirst_0 ?_
  refine g_callVR (ctJ1_pollFirst ht hx) kJ1_pollFirst q1114 hx.rv (by decide) ⟨Nat.le_of_ble_eq_true rfl, Nat.le_of_ble_eq_true rfl⟩ rfl (Nat.le_of_ble_eq_true rfl) dJ1_removeFirst_1 k_x (k_r (fun r_1 h_1 p_1 => ?_))
  obtain ⟨x_1, f_1⟩ := p_1
  first | refine g_astore1 dJ1_removeFirst_4 (by decide) ?_ | refine g_astoreQ1 dJ1_removeFirst_4 (by decide) ?_ | refine g_astoreN1 dJ1_removeFirst_4 (by decide) ?_
  first | refine g_aload1 dJ1_removeFirst_5 ?_ | refine g_aloadQ1 dJ1_removeFirst_5 ?_ | refine g_aloadN1 dJ1_removeFirst_5 ?_
  refine g_ifnonnullR (tgt := 17) dJ1_removeFirst_6 (by decide) ?_
  first | refine g_aload1 dJ1_removeFirst_17 ?_ | refine g_aloadQ1 dJ1_removeFirst_17 ?_ | refine g_aloadN1 dJ1_removeFirst_17 ?_
  exact g_aret dJ1_removeFirst_18 rfl (Or.inl ⟨_, rfl⟩) ⟨_, rfl, x_1, f_1⟩
/-- a full one of 17 places -/
def DF (E : GE) (t : Nat) (h : AH) (d : Nat) (W : List Nat) (arr hd : Nat) (f : Nat → Option Nat) : Prop := h d = some (t, gO 5 [.ref arr, .int (nI hd), .int (nI hd)]) ∧ h arr = some (t + 1, gAR E 5 17 f) ∧ hd < 17 ∧ W.length = 17 ∧ ∀ (k v : Nat), W[k]? = some v → ∃ y, f ((hd + k) % 17) = some y ∧ bx E h y v
theorem DF.el {E : GE} {t : Nat} {h : AH} {d : Nat} {W : List Nat} {arr hd : Nat} {f : Nat → Option Nat} (hx : DF E t h d W arr hd f) {i : Nat} (hi : i < 17) : ∃ y v, f i = some y ∧ bx E h y v := by
  obtain ⟨a1, a2, a4, a5, a7⟩ := hx
  have hk : (i + 17 - hd) % 17 < W.length := by rw [a5]; exact Nat.mod_lt _ (by decide)
  obtain ⟨y, b1, b2⟩ := a7 _ _ (List.getElem?_eq_getElem hk)
  rw [show (hd + (i + 17 - hd) % 17) % 17 = i by omega] at b1
  exact ⟨y, _, b1, b2⟩
abbrev mJ1_grow : GM := (yJ1_grow, 9, none, [], { frames := 3, cells := 1, slots := 64, locals := 104 }, 255)
theorem kJ1_grow : gCv cJ1_grow mJ1_grow 1 := ⟨q827, qs1, q70, q828, ⟨by decide +kernel, by decide +kernel, by decide +kernel⟩, rfl⟩
theorem uJ1_grow : gCu cJ1_grow mJ1_grow 1 := ⟨q827, q70, q828, ⟨by decide +kernel, by decide +kernel, by decide +kernel⟩, rfl⟩
set_option maxHeartbeats 400000 in
theorem ctJ1_grow {E : GE} {h : AH} {t d : Nat} {W : List Nat} {arr hd : Nat} {f : Nat → Option Nat} (ht : 8 < t) (hx : DF E t h d W arr hd f) : Ct E cJ1_grow mJ1_grow [.ref d, .int (nI 1)] (h) (pV fun h' => DQ E t h' d W ∧ Fr (fun u => u = t ∨ u = t + 1) h h') (noX) := by
  refine g_enter (own := "java/util/ArrayDeque") [some (.ref d), some (.int (nI 1)), none, none, none, none, none, none, none] (by decide +kernel) rfl rfl (Nat.le_of_ble_eq_true rfl) rfl rfl (fun X => ?_)
  have hxx := hx
  obtain ⟨a1, a2, a4, a5, a7⟩ := hxx
  refine V.hE (fun hE => ?_)
  obtain ⟨mi, hmi⟩ := hE.mO
  have hel : ∀ i, i < 17 → ∀ y, f i = some y → gOb E h y := fun i hi y hy => by
    obtain ⟨y2, v, b1, b2⟩ := hx.el hi
    rw [hy] at b1
    cases b1
    exact b2.ob
  have K : ∀ (q : Nat) (g : Nat → Option Nat), h q = none → (∀ i, i < 17 → g i = f i) → ∀ n i (hq : AH) F, n + i = hd + 19 → hd ≤ i → hq d = some (t, gO 5 [.ref q, .int (nI (hd + 19)), .int (nI hd)]) → hq q = some (t + 1, gAR E 5 36 F) → (∀ j, j < hd → F j = g j) → (∀ j, hd + 19 ≤ j → j < 36 → F j = g (j - 19)) → Fr (fun u => u = t ∨ u = t + 1) h hq → V E cJ1_grow "java/util/ArrayDeque" mJ1_grow (pV fun h' => DQ E t h' d W ∧ Fr (fun u => u = t ∨ u = t + 1) h h') noX X (hq) 1 64 145 [some (.ref d), some (.int (nI 1)), some (.int (nI 17)), some (.int (nI 36)), some (.int (nI 19)), some (.ref q), some (.int (nI 19)), some (.int (nI i)), some (.int (nI (hd + 19)))] [] := by
    intro q g fq hg n
    induction n with
    | zero =>
      intro i hq F hn0 hi q1 q2 q3 q4 hF
      obtain rfl : i = hd + 19 := by omega
      refine g_iload7 dJ1_grow_145 ?_
      refine g_iload8 dJ1_grow_147 ?_
      first | refine g_icmpN_ge (tgt := 164) dJ1_grow_149 (by decide) (by omega) (by omega) (fun c_149 => ?_) (fun c_149 => ?_) | refine g_icmp_ge (tgt := 164) dJ1_grow_149 (by decide) (fun c_149 => ?_) (fun c_149 => ?_)
      · exact g_vret dJ1_grow_164 rfl ⟨rfl, ⟨q, 36, hd + 19, F, by rw [q1, a5, show (hd + 19 + 17) % 36 = hd by omega], q2, Or.inr rfl, by omega, by omega, by omega, fun k v z => (by obtain ⟨y, b1, b2⟩ := a7 k v z; have hk : k < W.length := (List.getElem?_eq_some_iff.mp z).1; refine ⟨y, ?_, b2.fr hF (tf7 ht)⟩; rw [← b1]; by_cases e : hd + k < 17; (rw [show (hd + 19 + k) % 36 = hd + 19 + k by omega, q4 _ (by omega) (by omega), hg _ (by omega)]; congr 1; omega); (rw [show (hd + 19 + k) % 36 = hd + k - 17 by omega, q3 _ (by omega), hg _ (by omega)]; congr 1; omega))⟩, hF⟩
      · omega
    | succ n ih =>
      intro i hq F hn0 hi q1 q2 q3 q4 hF
      refine g_iload7 dJ1_grow_145 ?_
      refine g_iload8 dJ1_grow_147 ?_
      first | refine g_icmpN_ge (tgt := 164) dJ1_grow_149 (by decide) (by omega) (by omega) (fun c_149 => ?_) (fun c_149 => ?_) | refine g_icmp_ge (tgt := 164) dJ1_grow_149 (by decide) (fun c_149 => ?_) (fun c_149 => ?_)
      · omega
      · first | refine g_aload5 dJ1_grow_152 ?_ | refine g_aloadQ5 dJ1_grow_152 ?_ | refine g_aloadN5 dJ1_grow_152 ?_
        refine g_iload7 dJ1_grow_154 ?_
        refine g_null dJ1_grow_156 ?_
        refine g_aastN q2 rfl (by omega) (by omega) dJ1_grow_157 ?_
        first | refine g_iincN7 1 dJ1_grow_158 (by decide) (by decide) ?_ | refine g_iinc7 _ dJ1_grow_158 rfl (by decide) ?_
        refine g_goto (tgt := 145) dJ1_grow_161 (by decide) ?_
        exact ih (i + 1) _ _ (by omega) (by omega) (g_upt q1 q2 (by omega)) (g_up_self _ _ _) (fun j hj => by rw [nup_ne _ _ (by omega)]; exact q3 j hj) (fun j hj hj2 => by rw [nup_ne _ _ (by omega)]; exact q4 j hj hj2) (hF.put2 q2 (Or.inr rfl) rfl)
  first | refine g_aload0 dJ1_grow_0 ?_ | refine g_aloadQ0 dJ1_grow_0 ?_ | refine g_aloadN0 dJ1_grow_0 ?_
  refine g_get (k0 := 0) (by first | assumption | exact g_up_self _ _ _ | (refine g_upf ?_ ?_ <;> assumption) | (refine g_upt ?_ ?_ (by decide) <;> assumption)) in_J1 q150 rfl (by decide) rfl dJ1_grow_1 ?_
  refine g_alen a2 (Or.inr (Or.inr (Or.inr (Or.inr (Or.inr ⟨5, _, by decide, by decide, rfl⟩))))) rfl dJ1_grow_4 ?_
  rw [show Int32.ofNat 17 = nI 17 from rfl]
  refine g_istore2 dJ1_grow_5 (by decide) ?_
  refine g_iload2 dJ1_grow_6 ?_
  refine g_bipush (nI 64) dJ1_grow_7 (by decide) ?_
  first | refine g_icmpN_ge (tgt := 18) dJ1_grow_9 (by decide) (by omega) (by omega) (fun c_9 => ?_) (fun c_9 => ?_) | refine g_icmp_ge (tgt := 18) dJ1_grow_9 (by decide) (fun c_9 => ?_) (fun c_9 => ?_)
  · omega
  · 
    refine g_iload2 dJ1_grow_12 ?_
    refine g_iconst (nI 2) dJ1_grow_13 (by decide) ?_
    first | refine g_iaddN dJ1_grow_14 ?_ | refine g_iadd dJ1_grow_14 ?_
    refine g_goto (tgt := 21) dJ1_grow_15 (by decide) ?_
    refine g_istore4 dJ1_grow_21 (by decide) ?_
    refine g_iload4 dJ1_grow_23 ?_
    refine g_iload1 dJ1_grow_25 ?_
    first | refine g_icmpN_lt (tgt := 41) dJ1_grow_26 (by decide) (by omega) (by omega) (fun c_26 => ?_) (fun c_26 => ?_) | refine g_icmp_lt (tgt := 41) dJ1_grow_26 (by decide) (fun c_26 => ?_) (fun c_26 => ?_)
    · omega
    · refine g_iload2 dJ1_grow_29 ?_
      refine g_iload4 dJ1_grow_30 ?_
      first | refine g_iaddN dJ1_grow_32 ?_ | refine g_iadd dJ1_grow_32 ?_
      refine g_dup dJ1_grow_33 rfl ?_
      refine g_istore3 dJ1_grow_34 (by decide) ?_
      refine g_ldcN 2147483639 q829 (by decide) dJ1_grow_35 ?_
      refine g_isub dJ1_grow_37 ?_
      refine g_if_le (tgt := 49) dJ1_grow_38 (by decide) (fun _ => ?_) (fun c => absurd (by decide) c)
      first | refine g_aload0 dJ1_grow_49 ?_ | refine g_aloadQ0 dJ1_grow_49 ?_ | refine g_aloadN0 dJ1_grow_49 ?_
      first | refine g_aload0 dJ1_grow_50 ?_ | refine g_aloadQ0 dJ1_grow_50 ?_ | refine g_aloadN0 dJ1_grow_50 ?_
      refine g_get (k0 := 0) (by first | assumption | exact g_up_self _ _ _ | (refine g_upf ?_ ?_ <;> assumption) | (refine g_upt ?_ ?_ (by decide) <;> assumption)) in_J1 q150 rfl (by decide) rfl dJ1_grow_51 ?_
      refine g_iload3 dJ1_grow_54 ?_
      refine g_callS (ctJ2_copyOf_2 (t + 1) 36 mi a2 hel (by decide) (by decide) hmi) kJ2_copyOf_2 q851 (by decide) ⟨Nat.le_of_ble_eq_true rfl, Nat.le_of_ble_eq_true rfl⟩ rfl (Nat.le_of_ble_eq_true rfl) dJ1_grow_55 k_x (k_r (fun r_55 h_55 p_55 => ?_))
      obtain ⟨g, e_55, z_55, w_55⟩ := p_55
      rw [z_55]
      have a1b := g_upf (z := (t + 1, gAR E 5 36 g)) a1 e_55
      have hnd : d ≠ r_55 := g_fne e_55 a1
      refine g_dup_x1 dJ1_grow_58 rfl rfl ?_
      refine g_put (k0 := 0) a1b in_J1 q150 tyJ1_ok nmJ1 rfl (by decide) rfl (by rfl) (by rfl) (Nat.le_of_ble_eq_true rfl) dJ1_grow_59 ?_
      have b1 := g_up_self (g_up h r_55 (t + 1, gAR E 5 36 g)) d (t, gO 5 [.ref r_55, .int (nI hd), .int (nI hd)])
      have b2 : g_up (g_up h r_55 (t + 1, gAR E 5 36 g)) d (t, gO 5 [.ref r_55, .int (nI hd), .int (nI hd)]) r_55 = some (t + 1, gAR E 5 36 g) := g_up_of (g_up_self _ _ _) (fun z => hnd z.symm)
      first | refine g_astore5 dJ1_grow_62 (by decide) ?_ | refine g_astoreQ5 dJ1_grow_62 (by decide) ?_ | refine g_astoreN5 dJ1_grow_62 (by decide) ?_
      first | refine g_aload0 dJ1_grow_64 ?_ | refine g_aloadQ0 dJ1_grow_64 ?_ | refine g_aloadN0 dJ1_grow_64 ?_
      refine g_get (k0 := 2) (by first | assumption | exact g_up_self _ _ _ | (refine g_upf ?_ ?_ <;> assumption) | (refine g_upt ?_ ?_ (by decide) <;> assumption)) in_J1 q154 rfl (by decide) rfl dJ1_grow_65 ?_
      first | refine g_aload0 dJ1_grow_68 ?_ | refine g_aloadQ0 dJ1_grow_68 ?_ | refine g_aloadN0 dJ1_grow_68 ?_
      refine g_get (k0 := 1) (by first | assumption | exact g_up_self _ _ _ | (refine g_upf ?_ ?_ <;> assumption) | (refine g_upt ?_ ?_ (by decide) <;> assumption)) in_J1 q153 rfl (by decide) rfl dJ1_grow_69 ?_
      first | refine g_icmpN_lt (tgt := 96) dJ1_grow_72 (by decide) (by omega) (by omega) (fun c_72 => ?_) (fun c_72 => ?_) | refine g_icmp_lt (tgt := 96) dJ1_grow_72 (by decide) (fun c_72 => ?_) (fun c_72 => ?_)
      · omega
      · first | refine g_aload0 dJ1_grow_75 ?_ | refine g_aloadQ0 dJ1_grow_75 ?_ | refine g_aloadN0 dJ1_grow_75 ?_
        refine g_get (k0 := 2) (by first | assumption | exact g_up_self _ _ _ | (refine g_upf ?_ ?_ <;> assumption) | (refine g_upt ?_ ?_ (by decide) <;> assumption)) in_J1 q154 rfl (by decide) rfl dJ1_grow_76 ?_
        first | refine g_aload0 dJ1_grow_79 ?_ | refine g_aloadQ0 dJ1_grow_79 ?_ | refine g_aloadN0 dJ1_grow_79 ?_
        refine g_get (k0 := 1) (by first | assumption | exact g_up_self _ _ _ | (refine g_upf ?_ ?_ <;> assumption) | (refine g_upt ?_ ?_ (by decide) <;> assumption)) in_J1 q153 rfl (by decide) rfl dJ1_grow_80 ?_
        first | refine g_icmpN_ne (tgt := 164) dJ1_grow_83 (by decide) (by omega) (by omega) (fun c_83 => ?_) (fun c_83 => ?_) | refine g_icmpU_ne (tgt := 164) dJ1_grow_83 (by decide) (by omega) (by omega) (fun c_83 => ?_) (fun c_83 => ?_) | refine g_icmp_ne (tgt := 164) dJ1_grow_83 (by decide) (fun c_83 => ?_) (fun c_83 => ?_)
        · omega
        · first | refine g_aload5 dJ1_grow_86 ?_ | refine g_aloadQ5 dJ1_grow_86 ?_ | refine g_aloadN5 dJ1_grow_86 ?_
          first | refine g_aload0 dJ1_grow_88 ?_ | refine g_aloadQ0 dJ1_grow_88 ?_ | refine g_aloadN0 dJ1_grow_88 ?_
          refine g_get (k0 := 1) (by first | assumption | exact g_up_self _ _ _ | (refine g_upf ?_ ?_ <;> assumption) | (refine g_upt ?_ ?_ (by decide) <;> assumption)) in_J1 q153 rfl (by decide) rfl dJ1_grow_89 ?_
          refine g_aald b2 rfl (by omega) (by omega) dJ1_grow_92 ?_
          obtain ⟨y0, v0, b3, -⟩ := hx.el a4
          rw [w_55 _ a4, b3]
          refine g_ifnullR dJ1_grow_93 ?_
          refine g_iload3 dJ1_grow_96 ?_
          refine g_iload2 dJ1_grow_97 ?_
          first | refine g_isubN dJ1_grow_98 (by omega) ?_ | refine g_isub dJ1_grow_98 ?_
          refine g_istore6 dJ1_grow_99 (by decide) ?_
          first | refine g_aload5 dJ1_grow_101 ?_ | refine g_aloadQ5 dJ1_grow_101 ?_ | refine g_aloadN5 dJ1_grow_101 ?_
          first | refine g_aload0 dJ1_grow_103 ?_ | refine g_aloadQ0 dJ1_grow_103 ?_ | refine g_aloadN0 dJ1_grow_103 ?_
          refine g_get (k0 := 1) (by first | assumption | exact g_up_self _ _ _ | (refine g_upf ?_ ?_ <;> assumption) | (refine g_upt ?_ ?_ (by decide) <;> assumption)) in_J1 q153 rfl (by decide) rfl dJ1_grow_104 ?_
          first | refine g_aload5 dJ1_grow_107 ?_ | refine g_aloadQ5 dJ1_grow_107 ?_ | refine g_aloadN5 dJ1_grow_107 ?_
          first | refine g_aload0 dJ1_grow_109 ?_ | refine g_aloadQ0 dJ1_grow_109 ?_ | refine g_aloadN0 dJ1_grow_109 ?_
          refine g_get (k0 := 1) (by first | assumption | exact g_up_self _ _ _ | (refine g_upf ?_ ?_ <;> assumption) | (refine g_upt ?_ ?_ (by decide) <;> assumption)) in_J1 q153 rfl (by decide) rfl dJ1_grow_110 ?_
          refine g_iload6 dJ1_grow_113 ?_
          first | refine g_iaddN dJ1_grow_115 ?_ | refine g_iadd dJ1_grow_115 ?_
          refine g_iload2 dJ1_grow_116 ?_
          first | refine g_aload0 dJ1_grow_117 ?_ | refine g_aloadQ0 dJ1_grow_117 ?_ | refine g_aloadN0 dJ1_grow_117 ?_
          refine g_get (k0 := 1) (by first | assumption | exact g_up_self _ _ _ | (refine g_upf ?_ ?_ <;> assumption) | (refine g_upt ?_ ?_ (by decide) <;> assumption)) in_J1 q153 rfl (by decide) rfl dJ1_grow_118 ?_
          first | refine g_isubN dJ1_grow_121 (by omega) ?_ | refine g_isub dJ1_grow_121 ?_
          refine g_copyQ (sp := hd) (dp := hd + 19) ⟨q899, q285, q284, q83⟩ b2 b2 (fun i hi y hy => (by rw [w_55 _ (by omega)] at hy; obtain ⟨y2, v2, b8, b9⟩ := hx.el (i := hd + i) (by omega); rw [hy] at b8; cases b8; exact (bx.fr (P := fun u => u = t ∨ u = t + 1) b9 ((Fr.new e_55).put2 a1b (Or.inl rfl) rfl) (tf7 ht)).ob)) (by omega) (by omega) (by omega) (Nat.le_of_ble_eq_true rfl) (Nat.le_of_ble_eq_true rfl) dJ1_grow_122 ?_
          have b4 := g_upt (x' := gAR E 5 36 (cpN g g hd (hd + 19) (17 - hd))) b1 b2 (by omega)
          first | refine g_aload0 dJ1_grow_125 ?_ | refine g_aloadQ0 dJ1_grow_125 ?_ | refine g_aloadN0 dJ1_grow_125 ?_
          refine g_get (k0 := 1) (by first | assumption | exact g_up_self _ _ _ | (refine g_upf ?_ ?_ <;> assumption) | (refine g_upt ?_ ?_ (by decide) <;> assumption)) in_J1 q153 rfl (by decide) rfl dJ1_grow_126 ?_
          refine g_istore7 dJ1_grow_129 (by decide) ?_
          first | refine g_aload0 dJ1_grow_131 ?_ | refine g_aloadQ0 dJ1_grow_131 ?_ | refine g_aloadN0 dJ1_grow_131 ?_
          refine g_dup dJ1_grow_132 rfl ?_
          refine g_get (k0 := 1) (by first | assumption | exact g_up_self _ _ _ | (refine g_upf ?_ ?_ <;> assumption) | (refine g_upt ?_ ?_ (by decide) <;> assumption)) in_J1 q153 rfl (by decide) rfl dJ1_grow_133 ?_
          refine g_iload6 dJ1_grow_136 ?_
          first | refine g_iaddN dJ1_grow_138 ?_ | refine g_iadd dJ1_grow_138 ?_
          refine g_dup_x1 dJ1_grow_139 rfl rfl ?_
          refine g_put (k0 := 1) (by first | assumption | exact g_up_self _ _ _ | (refine g_upf ?_ ?_ <;> assumption) | (refine g_upt ?_ ?_ (by decide) <;> assumption)) in_J1 q153 tyJ1_ok nmJ1 rfl (by decide) rfl (by rfl) (by rfl) (Nat.le_of_ble_eq_true rfl) dJ1_grow_140 ?_
          refine g_istore8 dJ1_grow_143 (by decide) ?_
          exact K r_55 g e_55 (fun i hi => w_55 i hi) 19 hd _ _ (by omega) (Nat.le_refl _) (g_up_self _ _ _) (g_upt (g_up_self _ _ _) b4 (by omega)) (fun j hj => by show va_cpy g g hd (hd + 19) (17 - hd) j = g j; unfold va_cpy; rw [if_neg (by omega)]) (fun j hj hj2 => by show va_cpy g g hd (hd + 19) (17 - hd) j = g (j - 19); unfold va_cpy; rw [if_pos (by omega)]; congr 1; omega) ((((Fr.new e_55).put2 a1b (Or.inl rfl) rfl).put2 b2 (Or.inr rfl) rfl).put2 b4 (Or.inl rfl) rfl)
abbrev mJ1_addLast : GM := (yJ1_addLast, 3, none, [], { frames := 4, cells := 1, slots := 64, locals := 132 }, 255)
theorem kJ1_addLast : gCv cJ1_addLast mJ1_addLast 1 := ⟨q821, q822, q70, q823, ⟨by decide +kernel, by decide +kernel, by decide +kernel⟩, rfl⟩
theorem uJ1_addLast : gCu cJ1_addLast mJ1_addLast 1 := ⟨q821, q70, q823, ⟨by decide +kernel, by decide +kernel, by decide +kernel⟩, rfl⟩
set_option maxHeartbeats 400000 in
theorem ctJ1_addLast {E : GE} {h : AH} {t d e v : Nat} {W : List Nat} {arr N hd : Nat} {f : Nat → Option Nat} (ht : 8 < t) (hx : DX E t h d W arr N hd f) (he : bx E h e v) (hl : W.length ≤ 19) : Ct E cJ1_addLast mJ1_addLast [.ref d, .ref e] (h) (pV fun h' => DQ E t h' d (W ++ [v]) ∧ Fr (fun u => u = t ∨ u = t + 1) h h') (noX) := by
  refine g_enter (own := "java/util/ArrayDeque") [some (.ref d), some (.ref e), none] (by decide +kernel) rfl rfl (Nat.le_of_ble_eq_true rfl) rfl rfl (fun X => ?_)
  have hxx := hx
  obtain ⟨a1, a2, hN, a4, a5, a6, a7⟩ := hxx
  have hm : (hd + W.length) % N < N := Nat.mod_lt _ (by omega)
  have hm2 : ((hd + W.length) % N + 1) % N < N := Nat.mod_lt _ (by omega)
  have hla : (W ++ [v]).length = W.length + 1 := by rw [List.length_append, List.length_singleton]
  first | refine g_aload1 dJ1_addLast_0 ?_ | refine g_aloadQ1 dJ1_addLast_0 ?_ | refine g_aloadN1 dJ1_addLast_0 ?_
  refine g_ifnonnullR (tgt := 12) dJ1_addLast_1 (by decide) ?_
  first | refine g_aload0 dJ1_addLast_12 ?_ | refine g_aloadQ0 dJ1_addLast_12 ?_ | refine g_aloadN0 dJ1_addLast_12 ?_
  refine g_get (k0 := 0) (by first | assumption | exact g_up_self _ _ _ | (refine g_upf ?_ ?_ <;> assumption) | (refine g_upt ?_ ?_ (by decide) <;> assumption)) in_J1 q150 rfl (by decide) rfl dJ1_addLast_13 ?_
  first | refine g_astore2 dJ1_addLast_16 (by decide) ?_ | refine g_astoreQ2 dJ1_addLast_16 (by decide) ?_ | refine g_astoreN2 dJ1_addLast_16 (by decide) ?_
  first | refine g_aload2 dJ1_addLast_17 ?_ | refine g_aloadQ2 dJ1_addLast_17 ?_ | refine g_aloadN2 dJ1_addLast_17 ?_
  first | refine g_aload0 dJ1_addLast_18 ?_ | refine g_aloadQ0 dJ1_addLast_18 ?_ | refine g_aloadN0 dJ1_addLast_18 ?_
  refine g_get (k0 := 2) (by first | assumption | exact g_up_self _ _ _ | (refine g_upf ?_ ?_ <;> assumption) | (refine g_upt ?_ ?_ (by decide) <;> assumption)) in_J1 q154 rfl (by decide) rfl dJ1_addLast_19 ?_
  first | refine g_aload1 dJ1_addLast_22 ?_ | refine g_aloadQ1 dJ1_addLast_22 ?_ | refine g_aloadN1 dJ1_addLast_22 ?_
  refine g_aastA a2 hm (by omega) he.ob dJ1_addLast_23 ?_
  have b1 : g_up h arr (t + 1, gAR E 5 N (nup f ((hd + W.length) % N) (some e))) d = some (t, gO 5 [.ref arr, .int (nI hd), .int (nI ((hd + W.length) % N))]) := g_upt a1 a2 (by omega)
  first | refine g_aload0 dJ1_addLast_24 ?_ | refine g_aloadQ0 dJ1_addLast_24 ?_ | refine g_aloadN0 dJ1_addLast_24 ?_
  refine g_get (k0 := 1) (by first | assumption | exact g_up_self _ _ _ | (refine g_upf ?_ ?_ <;> assumption) | (refine g_upt ?_ ?_ (by decide) <;> assumption)) in_J1 q153 rfl (by decide) rfl dJ1_addLast_25 ?_
  first | refine g_aload0 dJ1_addLast_28 ?_ | refine g_aloadQ0 dJ1_addLast_28 ?_ | refine g_aloadN0 dJ1_addLast_28 ?_
  first | refine g_aload0 dJ1_addLast_29 ?_ | refine g_aloadQ0 dJ1_addLast_29 ?_ | refine g_aloadN0 dJ1_addLast_29 ?_
  refine g_get (k0 := 2) (by first | assumption | exact g_up_self _ _ _ | (refine g_upf ?_ ?_ <;> assumption) | (refine g_upt ?_ ?_ (by decide) <;> assumption)) in_J1 q154 rfl (by decide) rfl dJ1_addLast_30 ?_
  first | refine g_aload2 dJ1_addLast_33 ?_ | refine g_aloadQ2 dJ1_addLast_33 ?_ | refine g_aloadN2 dJ1_addLast_33 ?_
  refine g_alen (g_up_self _ _ _) (Or.inr (Or.inr (Or.inr (Or.inr (Or.inr ⟨5, _, by decide, by decide, rfl⟩))))) rfl dJ1_addLast_34 ?_
  rw [show Int32.ofNat N = nI N from rfl]
  refine g_callS (ctJ1_inc _ _ (by assumption) (by first | omega | exact Nat.mod_lt _ (by omega))) kJ1_inc q824 (by decide) ⟨Nat.le_of_ble_eq_true rfl, Nat.le_of_ble_eq_true rfl⟩ rfl (Nat.le_of_ble_eq_true rfl) dJ1_addLast_35 k_x (k_n (fun r_35 h_35 p_35 => ?_))
  obtain ⟨rfl, z_35⟩ := p_35
  rw [z_35]
  refine g_dup_x1 dJ1_addLast_38 rfl rfl ?_
  refine g_put (k0 := 2) (by first | assumption | exact g_up_self _ _ _ | (refine g_upf ?_ ?_ <;> assumption) | (refine g_upt ?_ ?_ (by decide) <;> assumption)) in_J1 q154 tyJ1_ok nmJ1 rfl (by decide) rfl (by rfl) (by rfl) (Nat.le_of_ble_eq_true rfl) dJ1_addLast_39 ?_
  first | refine g_icmpN_ne (tgt := 50) dJ1_addLast_42 (by decide) (by omega) (by omega) (fun c_42 => ?_) (fun c_42 => ?_) | refine g_icmpU_ne (tgt := 50) dJ1_addLast_42 (by decide) (by omega) (by omega) (fun c_42 => ?_) (fun c_42 => ?_) | refine g_icmp_ne (tgt := 50) dJ1_addLast_42 (by decide) (fun c_42 => ?_) (fun c_42 => ?_)
  · exact g_vret dJ1_addLast_50 rfl ⟨rfl, by first | exact ⟨x_47, ((Fr.put a2 (Or.inr rfl)).put2 b1 (Or.inl rfl) rfl).tr f_47⟩ | exact ⟨⟨_, _, _, _, DX.push ht hx he hl (by rcases hN with rfl | rfl <;> omega)⟩, (Fr.put a2 (Or.inr rfl)).put2 b1 (Or.inl rfl) rfl⟩⟩
  · first | refine g_aload0 dJ1_addLast_45 ?_ | refine g_aloadQ0 dJ1_addLast_45 ?_ | refine g_aloadN0 dJ1_addLast_45 ?_
    refine g_iconst (nI 1) dJ1_addLast_46 (by decide) ?_
    have hNW : N = 17 ∧ W.length = 16 := by rcases hN with rfl | rfl <;> omega
    obtain ⟨rfl, hW16⟩ := hNW
    have hF : DF E t (g_up (g_up h arr (t + 1, gAR E 5 17 (nup f ((hd + W.length) % 17) (some e)))) d (t, gO 5 [.ref arr, .int (nI hd), .int (nI (((hd + W.length) % 17 + 1) % 17))])) d (W ++ [v]) arr hd (nup f ((hd + W.length) % 17) (some e)) := by
      refine ⟨by rw [g_up_self, show ((hd + W.length) % 17 + 1) % 17 = hd by omega], g_upt (g_up_self _ _ _) b1 (by omega), a4, by omega, fun k w z => ?_⟩
      have fr : ∀ y w, bx E h y w → bx E (g_up (g_up h arr (t + 1, gAR E 5 17 (nup f ((hd + W.length) % 17) (some e)))) d (t, gO 5 [.ref arr, .int (nI hd), .int (nI (((hd + W.length) % 17 + 1) % 17))])) y w := fun y w c2 => bx.fr (P := fun u => u = t ∨ u = t + 1) (bx.fr (P := fun u => u = t ∨ u = t + 1) c2 (Fr.put a2 (Or.inr rfl)) (tf7 ht)) (Fr.put b1 (Or.inl rfl)) (tf7 ht)
      by_cases hk : k < W.length
      · rw [List.getElem?_append_left hk] at z
        obtain ⟨y, c1, c2⟩ := a7 k w z
        refine ⟨y, ?_, fr _ _ c2⟩
        rw [nup_ne _ _ (show (hd + k) % 17 ≠ (hd + W.length) % 17 by omega)]
        exact c1
      · have hk2 : k < (W ++ [v]).length := (List.getElem?_eq_some_iff.mp z).1
        obtain rfl : k = W.length := by omega
        rw [List.getElem?_append_right (Nat.le_refl _), Nat.sub_self] at z
        cases z
        exact ⟨e, nup_self _ _ _, fr _ _ he⟩
    refine g_callVR (ctJ1_grow ht hF) kJ1_grow q825 (gRv.g hF.1 rfl rfl) (by decide) ⟨Nat.le_of_ble_eq_true rfl, Nat.le_of_ble_eq_true rfl⟩ rfl (Nat.le_of_ble_eq_true rfl) dJ1_addLast_47 k_x (k_v (fun h_47 p_47 => ?_))
    obtain ⟨x_47, f_47⟩ := p_47
    exact g_vret dJ1_addLast_50 rfl ⟨rfl, by first | exact ⟨x_47, ((Fr.put a2 (Or.inr rfl)).put2 b1 (Or.inl rfl) rfl).tr f_47⟩ | exact ⟨⟨_, _, _, _, DX.push ht hx he hl (by rcases hN with rfl | rfl <;> omega)⟩, (Fr.put a2 (Or.inr rfl)).put2 b1 (Or.inl rfl) rfl⟩⟩
theorem ctJ1_addLastQ {E : GE} {h : AH} {t d e v : Nat} {W : List Nat} (ht : 8 < t) (hx : DQ E t h d W) (he : bx E h e v) (hl : W.length ≤ 19) : Ct E cJ1_addLast mJ1_addLast [.ref d, .ref e] h (pV fun h' => DQ E t h' d (W ++ [v]) ∧ Fr (fun u => u = t ∨ u = t + 1) h h') noX := by
  obtain ⟨arr, N, hd, f, hx⟩ := hx
  exact ctJ1_addLast ht hx he hl
abbrev mJ31_init : GM := (yJ31_init, 2, none, [], { frames := 2, cells := 0, slots := 0, locals := 42 }, 255)
theorem kJ31_init : gCi cJ31_init mJ31_init 1 := ⟨q726, q122, q727, ⟨by decide +kernel, by decide +kernel, by decide +kernel⟩, rfl, rfl, rfl⟩
set_option maxHeartbeats 400000 in
theorem ctJ31_init {E : GE} {h : AH} {t d T it : Nat} {W : List Nat} {arr N hd : Nat} {f : Nat → Option Nat} (ha : h it = some (T, gO 10 [.int 0, .int 0, .int 0, .null])) (hx : DX E t h d W arr N hd f) (hT : T ≠ t ∧ T ≠ t + 1 ∧ T ≠ 7) : Ct E cJ31_init mJ31_init [.ref it, .ref d] (h) (pV fun h' => h' = g_up h it (T, gO 10 [.int (nI hd), .int (nI W.length), .int (nI 4294967295), .ref d])) (noX) := by
  refine g_enter (own := "java/util/ArrayDeque$DeqIterator") [some (.ref it), some (.ref d)] (by decide +kernel) rfl rfl (Nat.le_of_ble_eq_true rfl) rfl rfl (fun X => ?_)
  have fx : ∀ x, Fr (fun u => u = T) h (g_up h it (T, x)) := fun x => Fr.put ha rfl
  first | refine g_aload0 dJ31_init_0 ?_ | refine g_aloadQ0 dJ31_init_0 ?_ | refine g_aloadN0 dJ31_init_0 ?_
  first | refine g_aload1 dJ31_init_1 ?_ | refine g_aloadQ1 dJ31_init_1 ?_ | refine g_aloadN1 dJ31_init_1 ?_
  refine g_putF (k0 := 3) (by first | assumption | exact g_up_self _ _ _ | (refine g_upf ?_ ?_ <;> assumption) | (refine g_upt ?_ ?_ (by decide) <;> assumption)) in_J31 q739 tyJ31_ok nmJ31 rfl (by decide) rfl rfl rfl (by rfl) (by rfl) (Nat.le_of_ble_eq_true rfl) dJ31_init_2 ?_
  try rw [g_upup]
  have hx2 := hx.fr (fx (gO 10 [.int 0, .int 0, .int 0, .ref d])) (fun z => hT.1 z.symm) (fun z => hT.2.1 z.symm) (fun z => hT.2.2 z.symm)
  first | refine g_aload0 dJ31_init_5 ?_ | refine g_aloadQ0 dJ31_init_5 ?_ | refine g_aloadN0 dJ31_init_5 ?_
  refine g_objInit q728 q129 q130 dJ31_init_6 (Nat.le_of_ble_eq_true rfl) (Nat.le_of_ble_eq_true rfl) ?_
  first | refine g_aload0 dJ31_init_9 ?_ | refine g_aloadQ0 dJ31_init_9 ?_ | refine g_aloadN0 dJ31_init_9 ?_
  first | refine g_aload0 dJ31_init_10 ?_ | refine g_aloadQ0 dJ31_init_10 ?_ | refine g_aloadN0 dJ31_init_10 ?_
  refine g_get (k0 := 3) (by first | assumption | exact g_up_self _ _ _ | (refine g_upf ?_ ?_ <;> assumption) | (refine g_upt ?_ ?_ (by decide) <;> assumption)) in_J31 q739 rfl (by decide) rfl dJ31_init_11 ?_
  refine g_callVR (ctJ1_size hx2) kJ1_size q729 hx2.rv (by decide) ⟨Nat.le_of_ble_eq_true rfl, Nat.le_of_ble_eq_true rfl⟩ rfl (Nat.le_of_ble_eq_true rfl) dJ31_init_14 k_x (k_n (fun r_14 h_14 p_14 => ?_))
  obtain ⟨rfl, z_14⟩ := p_14
  rw [z_14]
  refine g_put (k0 := 1) (by first | assumption | exact g_up_self _ _ _ | (refine g_upf ?_ ?_ <;> assumption) | (refine g_upt ?_ ?_ (by decide) <;> assumption)) in_J31 q737 tyJ31_ok nmJ31 rfl (by decide) rfl (by rfl) (by rfl) (Nat.le_of_ble_eq_true rfl) dJ31_init_17 ?_
  try rw [g_upup]
  first | refine g_aload0 dJ31_init_20 ?_ | refine g_aloadQ0 dJ31_init_20 ?_ | refine g_aloadN0 dJ31_init_20 ?_
  refine g_iconst (nI 4294967295) dJ31_init_21 (by decide) ?_
  refine g_put (k0 := 2) (by first | assumption | exact g_up_self _ _ _ | (refine g_upf ?_ ?_ <;> assumption) | (refine g_upt ?_ ?_ (by decide) <;> assumption)) in_J31 q738 tyJ31_ok nmJ31 rfl (by decide) rfl (by rfl) (by rfl) (Nat.le_of_ble_eq_true rfl) dJ31_init_22 ?_
  try rw [g_upup]
  first | refine g_aload0 dJ31_init_25 ?_ | refine g_aloadQ0 dJ31_init_25 ?_ | refine g_aloadN0 dJ31_init_25 ?_
  first | refine g_aload1 dJ31_init_26 ?_ | refine g_aloadQ1 dJ31_init_26 ?_ | refine g_aloadN1 dJ31_init_26 ?_
  have hx3 := hx.fr (fx (gO 10 [.int 0, .int (nI W.length), .int (nI 4294967295), .ref d])) (fun z => hT.1 z.symm) (fun z => hT.2.1 z.symm) (fun z => hT.2.2 z.symm)
  have hd3 := hx3.1
  refine g_get (k0 := 1) (by first | assumption | exact g_up_self _ _ _ | (refine g_upf ?_ ?_ <;> assumption) | (refine g_upt ?_ ?_ (by decide) <;> assumption)) in_J1 q152 rfl (by decide) rfl dJ31_init_27 ?_
  refine g_put (k0 := 0) (by first | assumption | exact g_up_self _ _ _ | (refine g_upf ?_ ?_ <;> assumption) | (refine g_upt ?_ ?_ (by decide) <;> assumption)) in_J31 q736 tyJ31_ok nmJ31 rfl (by decide) rfl (by rfl) (by rfl) (Nat.le_of_ble_eq_true rfl) dJ31_init_30 ?_
  try rw [g_upup]
  exact g_vret dJ31_init_33 rfl ⟨rfl, rfl⟩
abbrev mJ1_iterator : GM := (yJ1_iterator, 1, (some (.object "java/util/Iterator")), [], { frames := 3, cells := 1, slots := 4, locals := 63 }, 255)
theorem kJ1_iterator : gCv cJ1_iterator mJ1_iterator 0 := ⟨q720, q721, q70, q722, ⟨by decide +kernel, by decide +kernel, by decide +kernel⟩, rfl⟩
theorem uJ1_iterator : gCu cJ1_iterator mJ1_iterator 0 := ⟨q720, q70, q722, ⟨by decide +kernel, by decide +kernel, by decide +kernel⟩, rfl⟩
set_option maxHeartbeats 400000 in
theorem ctJ1_iterator {E : GE} {h : AH} {t d : Nat} {W : List Nat} {arr N hd : Nat} {f : Nat → Option Nat} (T : Nat) (hx : DX E t h d W arr N hd f) (hT : T ≠ t ∧ T ≠ t + 1 ∧ T ≠ 7) : Ct E cJ1_iterator mJ1_iterator [.ref d] (h) (pR fun r h' => h r = none ∧ h' = g_up h r (T, gO 10 [.int (nI hd), .int (nI W.length), .int (nI 4294967295), .ref d])) (noX) := by
  refine g_enter (own := "java/util/ArrayDeque") [some (.ref d)] (by decide +kernel) rfl rfl (Nat.le_of_ble_eq_true rfl) rfl rfl (fun X => ?_)
  refine g_new 10 (T) [.int 0, .int 0, .int 0, .null] in_J31 tyJ31_ok q723 q724 q122 rfl nwJ31 (Nat.le_of_ble_eq_true rfl) (Nat.le_of_ble_eq_true rfl) dJ1_iterator_0 (fun q_0 f_0 => ?_)
  have hx2 := hx.fr (Fr.new (P := F0r) (z := (T, gO 10 [.int 0, .int 0, .int 0, .null])) f_0) id id id
  refine g_dup dJ1_iterator_3 rfl ?_
  first | refine g_aload0 dJ1_iterator_4 ?_ | refine g_aloadQ0 dJ1_iterator_4 ?_ | refine g_aloadN0 dJ1_iterator_4 ?_
  refine g_callI (ctJ31_init (g_up_self _ _ _) hx2 hT) kJ31_init q725 (by decide) ⟨Nat.le_of_ble_eq_true rfl, Nat.le_of_ble_eq_true rfl⟩ rfl (Nat.le_of_ble_eq_true rfl) dJ1_iterator_5 k_x (k_v (fun h_5 p_5 => ?_))
  subst p_5
  rw [g_upup]
  exact g_aret dJ1_iterator_8 rfl (Or.inl ⟨_, rfl⟩) ⟨_, rfl, f_0, rfl⟩
abbrev mJ31_hasNext : GM := (yJ31_hasNext, 1, (some .boolean), [], { frames := 0, cells := 0, slots := 0, locals := 0 }, 255)
theorem uJ31_hasNext : gCu cJ31_hasNext mJ31_hasNext 0 := ⟨q756, q122, q758, ⟨by decide +kernel, by decide +kernel, by decide +kernel⟩, rfl⟩
set_option maxHeartbeats 400000 in
theorem ctJ31_hasNext {E : GE} {h : AH} {it T i n : Nat} {x : Int32} {d : Nat} (ha : h it = some (T, gO 10 [.int (nI i), .int (nI n), .int x, .ref d])) (hn : n < 2147483648) : Ct E cJ31_hasNext mJ31_hasNext [.ref it] (h) (pN fun r h' => r = (if 0 < n then 1 else 0) ∧ h' = h) (noX) := by
  refine g_enter (own := "java/util/ArrayDeque$DeqIterator") [some (.ref it)] (by decide +kernel) rfl rfl (Nat.le_of_ble_eq_true rfl) rfl rfl (fun X => ?_)
  first | refine g_aload0 dJ31_hasNext_0 ?_ | refine g_aloadQ0 dJ31_hasNext_0 ?_ | refine g_aloadN0 dJ31_hasNext_0 ?_
  refine g_get (k0 := 1) (by first | assumption | exact g_up_self _ _ _ | (refine g_upf ?_ ?_ <;> assumption) | (refine g_upt ?_ ?_ (by decide) <;> assumption)) in_J31 q737 rfl (by decide) rfl dJ31_hasNext_1 ?_
  first | refine g_ifN_le (tgt := 11) dJ31_hasNext_4 (by decide) (by omega) (fun c_4 => ?_) (fun c_4 => ?_) | refine g_if_le (tgt := 11) dJ31_hasNext_4 (by decide) (fun c_4 => ?_) (fun c_4 => ?_)
  · refine g_iconst (nI 0) dJ31_hasNext_11 (by decide) ?_
    exact g_zret dJ31_hasNext_12 rfl (nar_zb (by omega)) ⟨_, rfl, by first | rw [if_pos (by omega)] | rw [if_neg (by omega)], rfl⟩
  · refine g_iconst (nI 1) dJ31_hasNext_7 (by decide) ?_
    refine g_goto (tgt := 12) dJ31_hasNext_8 (by decide) ?_
    exact g_zret dJ31_hasNext_12 rfl (nar_zb (by omega)) ⟨_, rfl, by first | rw [if_pos (by omega)] | rw [if_neg (by omega)], rfl⟩
abbrev mJ31_next : GM := (yJ31_next, 3, (some (.object "java/lang/Object")), [], { frames := 1, cells := 0, slots := 0, locals := 22 }, 255)
theorem uJ31_next : gCu cJ31_next mJ31_next 0 := ⟨q765, q122, q767, ⟨by decide +kernel, by decide +kernel, by decide +kernel⟩, rfl⟩
set_option maxHeartbeats 400000 in
theorem ctJ31_next {E : GE} {h : AH} {t d T it : Nat} {W : List Nat} {arr N hd : Nat} {f : Nat → Option Nat} {i v : Nat} {x : Int32} (ha : h it = some (T, gO 10 [.int (nI ((hd + i) % N)), .int (nI (W.length - i)), .int x, .ref d])) (hx : DX E t h d W arr N hd f) (hT : T ≠ t ∧ T ≠ t + 1 ∧ T ≠ 7) (hi : W[i]? = some v) : Ct E cJ31_next mJ31_next [.ref it] (h) (pR fun r h' => bx E h r v ∧ ∃ x', h' = g_up h it (T, gO 10 [.int (nI ((hd + (i + 1)) % N)), .int (nI (W.length - (i + 1))), .int x', .ref d])) (noX) := by
  refine g_enter (own := "java/util/ArrayDeque$DeqIterator") [some (.ref it), none, none] (by decide +kernel) rfl rfl (Nat.le_of_ble_eq_true rfl) rfl rfl (fun X => ?_)
  have hxx := hx
  obtain ⟨a1, a2, hN, a4, a5, a6, a7⟩ := hxx
  obtain ⟨y, c1, c2⟩ := a7 i v hi
  have hil : i < W.length := (List.getElem?_eq_some_iff.mp hi).1
  have hm : (hd + i) % N < N := Nat.mod_lt _ (by omega)
  have e1 : ((hd + i) % N + 1) % N = (hd + (i + 1)) % N := by rcases hN with rfl | rfl <;> omega
  first | refine g_aload0 dJ31_next_0 ?_ | refine g_aloadQ0 dJ31_next_0 ?_ | refine g_aloadN0 dJ31_next_0 ?_
  refine g_get (k0 := 1) (by first | assumption | exact g_up_self _ _ _ | (refine g_upf ?_ ?_ <;> assumption) | (refine g_upt ?_ ?_ (by decide) <;> assumption)) in_J31 q737 rfl (by decide) rfl dJ31_next_1 ?_
  first | refine g_ifN_gt (tgt := 15) dJ31_next_4 (by decide) (by omega) (fun c_4 => ?_) (fun c_4 => ?_) | refine g_if_gt (tgt := 15) dJ31_next_4 (by decide) (fun c_4 => ?_) (fun c_4 => ?_)
  · first | refine g_aload0 dJ31_next_15 ?_ | refine g_aloadQ0 dJ31_next_15 ?_ | refine g_aloadN0 dJ31_next_15 ?_
    refine g_get (k0 := 3) (by first | assumption | exact g_up_self _ _ _ | (refine g_upf ?_ ?_ <;> assumption) | (refine g_upt ?_ ?_ (by decide) <;> assumption)) in_J31 q739 rfl (by decide) rfl dJ31_next_16 ?_
    refine g_get (k0 := 0) (by first | assumption | exact g_up_self _ _ _ | (refine g_upf ?_ ?_ <;> assumption) | (refine g_upt ?_ ?_ (by decide) <;> assumption)) in_J1 q151 rfl (by decide) rfl dJ31_next_19 ?_
    first | refine g_astore1 dJ31_next_22 (by decide) ?_ | refine g_astoreQ1 dJ31_next_22 (by decide) ?_ | refine g_astoreN1 dJ31_next_22 (by decide) ?_
    first | refine g_aload1 dJ31_next_23 ?_ | refine g_aloadQ1 dJ31_next_23 ?_ | refine g_aloadN1 dJ31_next_23 ?_
    first | refine g_aload0 dJ31_next_24 ?_ | refine g_aloadQ0 dJ31_next_24 ?_ | refine g_aloadN0 dJ31_next_24 ?_
    refine g_get (k0 := 0) (by first | assumption | exact g_up_self _ _ _ | (refine g_upf ?_ ?_ <;> assumption) | (refine g_upt ?_ ?_ (by decide) <;> assumption)) in_J31 q736 rfl (by decide) rfl dJ31_next_25 ?_
    refine g_callS (ctJ1_nonNullElementAt (by assumption) (by assumption) (by omega) (by assumption)) kJ1_nonNullElementAt q789 (by decide) ⟨Nat.le_of_ble_eq_true rfl, Nat.le_of_ble_eq_true rfl⟩ rfl (Nat.le_of_ble_eq_true rfl) dJ31_next_28 k_x (k_r (fun r_28 h_28 p_28 => ?_))
    obtain ⟨rfl, z_28⟩ := p_28
    rw [z_28]
    first | refine g_astore2 dJ31_next_31 (by decide) ?_ | refine g_astoreQ2 dJ31_next_31 (by decide) ?_ | refine g_astoreN2 dJ31_next_31 (by decide) ?_
    first | refine g_aload0 dJ31_next_32 ?_ | refine g_aloadQ0 dJ31_next_32 ?_ | refine g_aloadN0 dJ31_next_32 ?_
    first | refine g_aload0 dJ31_next_33 ?_ | refine g_aloadQ0 dJ31_next_33 ?_ | refine g_aloadN0 dJ31_next_33 ?_
    first | refine g_aload0 dJ31_next_34 ?_ | refine g_aloadQ0 dJ31_next_34 ?_ | refine g_aloadN0 dJ31_next_34 ?_
    refine g_get (k0 := 0) (by first | assumption | exact g_up_self _ _ _ | (refine g_upf ?_ ?_ <;> assumption) | (refine g_upt ?_ ?_ (by decide) <;> assumption)) in_J31 q736 rfl (by decide) rfl dJ31_next_35 ?_
    refine g_dup_x1 dJ31_next_38 rfl rfl ?_
    refine g_put (k0 := 2) (by first | assumption | exact g_up_self _ _ _ | (refine g_upf ?_ ?_ <;> assumption) | (refine g_upt ?_ ?_ (by decide) <;> assumption)) in_J31 q738 tyJ31_ok nmJ31 rfl (by decide) rfl (by rfl) (by rfl) (Nat.le_of_ble_eq_true rfl) dJ31_next_39 ?_
    try rw [g_upup]
    first | refine g_aload1 dJ31_next_42 ?_ | refine g_aloadQ1 dJ31_next_42 ?_ | refine g_aloadN1 dJ31_next_42 ?_
    refine g_alen (g_upt a2 ha (by omega)) (Or.inr (Or.inr (Or.inr (Or.inr (Or.inr ⟨5, _, by decide, by decide, rfl⟩))))) rfl dJ31_next_43 ?_
    rw [show Int32.ofNat N = nI N from rfl]
    refine g_callS (ctJ1_inc _ _ (by assumption) (by first | omega | exact Nat.mod_lt _ (by omega))) kJ1_inc q792 (by decide) ⟨Nat.le_of_ble_eq_true rfl, Nat.le_of_ble_eq_true rfl⟩ rfl (Nat.le_of_ble_eq_true rfl) dJ31_next_44 k_x (k_n (fun r_44 h_44 p_44 => ?_))
    obtain ⟨rfl, z_44⟩ := p_44
    rw [z_44]
    rw [e1]
    refine g_put (k0 := 0) (by first | assumption | exact g_up_self _ _ _ | (refine g_upf ?_ ?_ <;> assumption) | (refine g_upt ?_ ?_ (by decide) <;> assumption)) in_J31 q736 tyJ31_ok nmJ31 rfl (by decide) rfl (by rfl) (by rfl) (Nat.le_of_ble_eq_true rfl) dJ31_next_47 ?_
    try rw [g_upup]
    first | refine g_aload0 dJ31_next_50 ?_ | refine g_aloadQ0 dJ31_next_50 ?_ | refine g_aloadN0 dJ31_next_50 ?_
    refine g_dup dJ31_next_51 rfl ?_
    refine g_get (k0 := 1) (by first | assumption | exact g_up_self _ _ _ | (refine g_upf ?_ ?_ <;> assumption) | (refine g_upt ?_ ?_ (by decide) <;> assumption)) in_J31 q737 rfl (by decide) rfl dJ31_next_52 ?_
    refine g_iconst (nI 1) dJ31_next_55 (by decide) ?_
    first | refine g_isubN dJ31_next_56 (by omega) ?_ | refine g_isub dJ31_next_56 ?_
    refine g_put (k0 := 1) (by first | assumption | exact g_up_self _ _ _ | (refine g_upf ?_ ?_ <;> assumption) | (refine g_upt ?_ ?_ (by decide) <;> assumption)) in_J31 q737 tyJ31_ok nmJ31 rfl (by decide) rfl (by rfl) (by rfl) (Nat.le_of_ble_eq_true rfl) dJ31_next_57 ?_
    try rw [g_upup]
    first | refine g_aload2 dJ31_next_60 ?_ | refine g_aloadQ2 dJ31_next_60 ?_ | refine g_aloadN2 dJ31_next_60 ?_
    exact g_aret dJ31_next_61 rfl (Or.inl ⟨_, rfl⟩) ⟨_, rfl, c2, _, rfl⟩
  · omega
abbrev mJ2_fill : GM := (yJ2_fill, 4, none, [], { frames := 0, cells := 0, slots := 0, locals := 0 }, 255)
theorem kJ2_fill : gCs cJ2_fill mJ2_fill 2 := ⟨q165, q71, q166, ⟨by decide +kernel, by decide +kernel, by decide +kernel⟩, rfl⟩
set_option maxHeartbeats 400000 in
theorem ctJ2_fill {E : GE} {h : AH} {a t N : Nat} {F : Nat → Nat} (ha : h a = some (t, gAIn E N F)) (hN : N < 1000) : Ct E cJ2_fill mJ2_fill [.ref a, .int (nI 1)] (h) (pV fun h' => ∃ F', (∀ j, j < N → F' j = 1) ∧ h' = g_up h a (t, gAIn E N F')) (noX) := by
  refine g_enter (own := "java/util/Arrays") [some (.ref a), some (.int (nI 1)), none, none] (by decide +kernel) rfl rfl (Nat.le_of_ble_eq_true rfl) rfl rfl (fun X => ?_)
  have K : ∀ n i F, n + i = N → (∀ j, j < i → F j = 1) → V E cJ2_fill "java/util/Arrays" mJ2_fill (pV fun h' => ∃ F', (∀ j, j < N → F' j = 1) ∧ h' = g_up h a (t, gAIn E N F')) noX X (g_up h a (t, gAIn E N F)) 0 0 5 [some (.ref a), some (.int (nI 1)), some (.int (nI i)), some (.int (nI N))] [] := by
    intro n
    induction n with
    | zero =>
      intro i F hn0 hF
      obtain rfl : i = N := by omega
      refine g_iload2 dJ2_fill_5 ?_
      refine g_iload3 dJ2_fill_6 ?_
      first | refine g_icmpN_ge (tgt := 20) dJ2_fill_7 (by decide) (by omega) (by omega) (fun c_7 => ?_) (fun c_7 => ?_) | refine g_icmp_ge (tgt := 20) dJ2_fill_7 (by decide) (fun c_7 => ?_) (fun c_7 => ?_)
      · exact g_vret dJ2_fill_20 rfl ⟨rfl, _, hF, rfl⟩
      · omega
    | succ n ih =>
      intro i F hn0 hF
      refine g_iload2 dJ2_fill_5 ?_
      refine g_iload3 dJ2_fill_6 ?_
      first | refine g_icmpN_ge (tgt := 20) dJ2_fill_7 (by decide) (by omega) (by omega) (fun c_7 => ?_) (fun c_7 => ?_) | refine g_icmp_ge (tgt := 20) dJ2_fill_7 (by decide) (fun c_7 => ?_) (fun c_7 => ?_)
      · omega
      · first | refine g_aload0 dJ2_fill_10 ?_ | refine g_aloadQ0 dJ2_fill_10 ?_ | refine g_aloadN0 dJ2_fill_10 ?_
        refine g_iload2 dJ2_fill_11 ?_
        refine g_iload1 dJ2_fill_12 ?_
        refine g_iastN (by first | assumption | exact g_up_self _ _ _ | (refine g_upf ?_ ?_ <;> assumption) | (refine g_upt ?_ ?_ (by decide) <;> assumption)) (by omega) (by omega) dJ2_fill_13 ?_
        first | refine g_iincN2 1 dJ2_fill_14 (by decide) (by decide) ?_ | refine g_iinc2 _ dJ2_fill_14 rfl (by decide) ?_
        refine g_goto (tgt := 5) dJ2_fill_17 (by decide) ?_
        rw [g_upup]
        exact ih (i + 1) _ (by omega) (fun j hj => by unfold nup; split; rfl; exact hF j (by omega))
  have e0 : h = g_up h a (t, gAIn E N F) := by
    funext b
    unfold g_up
    split
    · rename_i e
      rw [e, ha]
    · rfl
  refine g_iconst (nI 0) dJ2_fill_0 (by decide) ?_
  refine g_istore2 dJ2_fill_1 (by decide) ?_
  first | refine g_aload0 dJ2_fill_2 ?_ | refine g_aloadQ0 dJ2_fill_2 ?_ | refine g_aloadN0 dJ2_fill_2 ?_
  refine g_alen (by first | assumption | exact g_up_self _ _ _ | (refine g_upf ?_ ?_ <;> assumption) | (refine g_upt ?_ ?_ (by decide) <;> assumption)) (by first | exact Or.inl ⟨_, rfl⟩ | exact Or.inr (Or.inr (Or.inl ⟨_, rfl⟩)) | exact Or.inr (Or.inr (Or.inr (Or.inl ⟨_, rfl⟩))) | exact Or.inr (Or.inr (Or.inr (Or.inr (Or.inr ⟨_, _, by decide, by decide, rfl⟩))))) rfl dJ2_fill_3 ?_
  refine g_istore3 dJ2_fill_4 (by decide) ?_
  rw [show Int32.ofNat N = nI N from rfl]
  have q := K N 0 F (by omega) (fun j hj => absurd hj (Nat.not_lt_zero j))
  rw [← e0] at q
  exact q
abbrev mJ2_fill_2 : GM := (yJ2_fill_2, 4, none, [], { frames := 0, cells := 0, slots := 0, locals := 0 }, 255)
theorem kJ2_fill_2 : gCs cJ2_fill_2 mJ2_fill_2 2 := ⟨q168, q71, q169, ⟨by decide +kernel, by decide +kernel, by decide +kernel⟩, rfl⟩
set_option maxHeartbeats 400000 in
theorem ctJ2_fill_2 {E : GE} {h : AH} {a t N : Nat} {F : Nat → Nat} (ha : h a = some (t, gAZn E N F)) (hN : N < 1000) : Ct E cJ2_fill_2 mJ2_fill_2 [.ref a, .int (nI 1)] (h) (pV fun h' => ∃ F', (∀ j, j < N → F' j = 1) ∧ h' = g_up h a (t, gAZn E N F')) (noX) := by
  refine g_enter (own := "java/util/Arrays") [some (.ref a), some (.int (nI 1)), none, none] (by decide +kernel) rfl rfl (Nat.le_of_ble_eq_true rfl) rfl rfl (fun X => ?_)
  have K : ∀ n i F, n + i = N → (∀ j, j < i → F j = 1) → V E cJ2_fill_2 "java/util/Arrays" mJ2_fill_2 (pV fun h' => ∃ F', (∀ j, j < N → F' j = 1) ∧ h' = g_up h a (t, gAZn E N F')) noX X (g_up h a (t, gAZn E N F)) 0 0 5 [some (.ref a), some (.int (nI 1)), some (.int (nI i)), some (.int (nI N))] [] := by
    intro n
    induction n with
    | zero =>
      intro i F hn0 hF
      obtain rfl : i = N := by omega
      refine g_iload2 dJ2_fill_2_5 ?_
      refine g_iload3 dJ2_fill_2_6 ?_
      first | refine g_icmpN_ge (tgt := 20) dJ2_fill_2_7 (by decide) (by omega) (by omega) (fun c_7 => ?_) (fun c_7 => ?_) | refine g_icmp_ge (tgt := 20) dJ2_fill_2_7 (by decide) (fun c_7 => ?_) (fun c_7 => ?_)
      · exact g_vret dJ2_fill_2_20 rfl ⟨rfl, _, hF, rfl⟩
      · omega
    | succ n ih =>
      intro i F hn0 hF
      refine g_iload2 dJ2_fill_2_5 ?_
      refine g_iload3 dJ2_fill_2_6 ?_
      first | refine g_icmpN_ge (tgt := 20) dJ2_fill_2_7 (by decide) (by omega) (by omega) (fun c_7 => ?_) (fun c_7 => ?_) | refine g_icmp_ge (tgt := 20) dJ2_fill_2_7 (by decide) (fun c_7 => ?_) (fun c_7 => ?_)
      · omega
      · first | refine g_aload0 dJ2_fill_2_10 ?_ | refine g_aloadQ0 dJ2_fill_2_10 ?_ | refine g_aloadN0 dJ2_fill_2_10 ?_
        refine g_iload2 dJ2_fill_2_11 ?_
        refine g_iload1 dJ2_fill_2_12 ?_
        refine g_zastN (by first | assumption | exact g_up_self _ _ _ | (refine g_upf ?_ ?_ <;> assumption) | (refine g_upt ?_ ?_ (by decide) <;> assumption)) (by omega) (by omega) (by omega) dJ2_fill_2_13 ?_
        first | refine g_iincN2 1 dJ2_fill_2_14 (by decide) (by decide) ?_ | refine g_iinc2 _ dJ2_fill_2_14 rfl (by decide) ?_
        refine g_goto (tgt := 5) dJ2_fill_2_17 (by decide) ?_
        rw [g_upup]
        exact ih (i + 1) _ (by omega) (fun j hj => by unfold nup; split; rfl; exact hF j (by omega))
  have e0 : h = g_up h a (t, gAZn E N F) := by
    funext b
    unfold g_up
    split
    · rename_i e
      rw [e, ha]
    · rfl
  refine g_iconst (nI 0) dJ2_fill_2_0 (by decide) ?_
  refine g_istore2 dJ2_fill_2_1 (by decide) ?_
  first | refine g_aload0 dJ2_fill_2_2 ?_ | refine g_aloadQ0 dJ2_fill_2_2 ?_ | refine g_aloadN0 dJ2_fill_2_2 ?_
  refine g_alen (by first | assumption | exact g_up_self _ _ _ | (refine g_upf ?_ ?_ <;> assumption) | (refine g_upt ?_ ?_ (by decide) <;> assumption)) (by first | exact Or.inl ⟨_, rfl⟩ | exact Or.inr (Or.inr (Or.inl ⟨_, rfl⟩)) | exact Or.inr (Or.inr (Or.inr (Or.inl ⟨_, rfl⟩))) | exact Or.inr (Or.inr (Or.inr (Or.inr (Or.inr ⟨_, _, by decide, by decide, rfl⟩))))) rfl dJ2_fill_2_3 ?_
  refine g_istore3 dJ2_fill_2_4 (by decide) ?_
  rw [show Int32.ofNat N = nI N from rfl]
  have q := K N 0 F (by omega) (fun j hj => absurd hj (Nat.not_lt_zero j))
  rw [← e0] at q
  exact q
