/-! THE TWIN: it is made -/
set_option maxRecDepth 100000
theorem V.sub {E : GE} {cc : ByteArray} {own : String} {M : GM} {Po : Option Value → AH → Prop} {Px : String → Nat → AH → Prop} {X : GX} {h h' : AH} {k n pc : Nat} {ls : List (Option Value)} {st : List Value} (hs : ∀ a x, h a = some x → h' a = some x) (kk : V E cc own M Po Px X h k n pc ls st) : V E cc own M Po Px X h' k n pc ls st := by
  intro O H locs la hI hS hl hL
  obtain ⟨h0, ws, hP, hD, hm⟩ := hI
  exact kk O H locs la ⟨h0, ws, hP, hD, fun a t e z => hm a t e (hs a _ z)⟩ hS hl hL
/-- while an object is made: the object a, the cells made for it -/
def CI (h : AH) (a t : Nat) (hc : AH) (L : List (Nat × va_E)) (o : va_E) : Prop := hc a = some (t, o) ∧ (∀ p ∈ L, hc p.1 = some (t, p.2) ∧ p.1 ≠ a) ∧ L.Pairwise (fun p q => p.1 ≠ q.1) ∧ ∀ b x, h b = some x → b ≠ a → hc b = some x
theorem CI.nil {h : AH} {a t : Nat} {o : va_E} (ha : h a = some (t, o)) : CI h a t h [] o := ⟨ha, fun _ z => (nomatch z), List.Pairwise.nil, fun _ _ z _ => z⟩
theorem CI.put {h : AH} {a t : Nat} {hc : AH} {L : List (Nat × va_E)} {o : va_E} (C : CI h a t hc L o) (o' : va_E) : CI h a t (g_up hc a (t, o')) L o' := ⟨g_up_self _ _ _, fun p hp => ⟨g_up_of (C.2.1 p hp).1 (C.2.1 p hp).2, (C.2.1 p hp).2⟩, C.2.2.1, fun b x hb hn => g_up_of (C.2.2.2 b x hb hn) hn⟩
theorem CI.new {h : AH} {a t : Nat} {hc : AH} {L : List (Nat × va_E)} {o e : va_E} {q : Nat} (C : CI h a t hc L o) (hq : hc q = none) : CI h a t (g_up hc q (t, e)) ((q, e) :: L) o := by
  obtain ⟨c1, c2, c3, c4⟩ := C
  have hqa : q ≠ a := fun z => by rw [z, c1] at hq; cases hq
  refine ⟨g_upf c1 hq, fun p hp => ?_, List.Pairwise.cons (fun p hp z => ?_) c3, fun b x hb hn => ?_⟩
  · rcases List.mem_cons.mp hp with rfl | hp
    · exact ⟨g_up_self _ _ _, hqa⟩
    · exact ⟨g_upf (c2 p hp).1 hq, (c2 p hp).2⟩
  · have h1 := (c2 p hp).1
    rw [← show q = p.1 from z, hq] at h1
    cases h1
  · obtain ⟨t9, y⟩ := x
    exact g_upf (c4 b _ hb hn) hq
def twZ : TW := fun k => if k = 0 then nup (fun _ => 0) 16 4294967295 else fun _ => 0
def twS : Nat → TW
  | 0 => tset twZ 1 0 1
  | m + 1 => tset (tset (twS m) 1 (1 + m) 1) 1 (9 + m) 1
/-- the twin's memory at its start -/
def twI : TW := twS 8
set_option maxHeartbeats 400000 in
theorem tw_born {E : GE} {h hc : AH} {a q1 q2 q4 q5 q8 q9 q11 q12 q14 : Nat} (C : CI h a 5 hc [(q14, gAC E 40 (fun _ => 0)), (q12, gAC E 100 (fun _ => 0)), (q11, gAI E 3 (fun _ => 0)), (q9, gAI E 30 (fun _ => 0)), (q8, gAI E 30 (fun _ => 0)), (q5, gAI E 24 (fun _ => 0)), (q4, gAI E 8 (fun _ => 0)), (q2, gAI E 534 (fun _ => 0)), (q1, gAI E 534 (fun _ => 0))] (gO 2 [.int 0, .ref q1, .ref q2, .int 0, .ref q4, .ref q5, .int 0, .int 0, .ref q8, .ref q9, .int 0, .ref q11, .ref q12, .int 0, .ref q14, .int 0, .int (nI 4294967295), .int 0, .int 0, .int 0, .int 0, .int 0])) : ∃ A : Nat → Nat, twA A ∧ A 0 = a ∧ ∀ b x, twO E A twZ h b = some x → hc b = some x := by
  obtain ⟨c1, c2, c3, c4⟩ := C
  have m1 := c2 (q1, gAI E 534 (fun _ => 0)) (List.mem_of_getElem? (i := 8) rfl)
  have m2 := c2 (q2, gAI E 534 (fun _ => 0)) (List.mem_of_getElem? (i := 7) rfl)
  have m4 := c2 (q4, gAI E 8 (fun _ => 0)) (List.mem_of_getElem? (i := 6) rfl)
  have m5 := c2 (q5, gAI E 24 (fun _ => 0)) (List.mem_of_getElem? (i := 5) rfl)
  have m8 := c2 (q8, gAI E 30 (fun _ => 0)) (List.mem_of_getElem? (i := 4) rfl)
  have m9 := c2 (q9, gAI E 30 (fun _ => 0)) (List.mem_of_getElem? (i := 3) rfl)
  have m11 := c2 (q11, gAI E 3 (fun _ => 0)) (List.mem_of_getElem? (i := 2) rfl)
  have m12 := c2 (q12, gAC E 100 (fun _ => 0)) (List.mem_of_getElem? (i := 1) rfl)
  have m14 := c2 (q14, gAC E 40 (fun _ => 0)) (List.mem_of_getElem? (i := 0) rfl)
  simp only [List.pairwise_cons, List.mem_cons, List.not_mem_nil, or_false, forall_eq_or_imp, forall_eq, List.Pairwise.nil, and_true, false_imp_iff, implies_true] at c3
  obtain ⟨⟨n_14_12, n_14_11, n_14_9, n_14_8, n_14_5, n_14_4, n_14_2, n_14_1⟩, ⟨n_12_11, n_12_9, n_12_8, n_12_5, n_12_4, n_12_2, n_12_1⟩, ⟨n_11_9, n_11_8, n_11_5, n_11_4, n_11_2, n_11_1⟩, ⟨n_9_8, n_9_5, n_9_4, n_9_2, n_9_1⟩, ⟨n_8_5, n_8_4, n_8_2, n_8_1⟩, ⟨n_5_4, n_5_2, n_5_1⟩, ⟨n_4_2, n_4_1⟩, n_2_1⟩ := c3
  obtain ⟨A, z0, z1, z2, z4, z5, z8, z9, z11, z12, z14⟩ : ∃ A : Nat → Nat, A 0 = a ∧ A 1 = q1 ∧ A 2 = q2 ∧ A 4 = q4 ∧ A 5 = q5 ∧ A 8 = q8 ∧ A 9 = q9 ∧ A 11 = q11 ∧ A 12 = q12 ∧ A 14 = q14 := ⟨(fun k => match k with | 1 => q1 | 2 => q2 | 4 => q4 | 5 => q5 | 8 => q8 | 9 => q9 | 11 => q11 | 12 => q12 | 14 => q14 | _ => a : Nat → Nat), rfl, rfl, rfl, rfl, rfl, rfl, rfl, rfl, rfl, rfl⟩
  subst z0 z1 z2 z4 z5 z8 z9 z11 z12 z14
  have hA : twA A := by
    intro i hi j hj e
    simp only [twK, List.mem_cons, List.not_mem_nil, or_false] at hi hj
    rcases hi with rfl | rfl | rfl | rfl | rfl | rfl | rfl | rfl | rfl | rfl <;> rcases hj with rfl | rfl | rfl | rfl | rfl | rfl | rfl | rfl | rfl | rfl
    · rfl
    · exact absurd e.symm m1.2
    · exact absurd e.symm m2.2
    · exact absurd e.symm m4.2
    · exact absurd e.symm m5.2
    · exact absurd e.symm m8.2
    · exact absurd e.symm m9.2
    · exact absurd e.symm m11.2
    · exact absurd e.symm m12.2
    · exact absurd e.symm m14.2
    · exact absurd e m1.2
    · rfl
    · exact absurd e.symm n_2_1
    · exact absurd e.symm n_4_1
    · exact absurd e.symm n_5_1
    · exact absurd e.symm n_8_1
    · exact absurd e.symm n_9_1
    · exact absurd e.symm n_11_1
    · exact absurd e.symm n_12_1
    · exact absurd e.symm n_14_1
    · exact absurd e m2.2
    · exact absurd e n_2_1
    · rfl
    · exact absurd e.symm n_4_2
    · exact absurd e.symm n_5_2
    · exact absurd e.symm n_8_2
    · exact absurd e.symm n_9_2
    · exact absurd e.symm n_11_2
    · exact absurd e.symm n_12_2
    · exact absurd e.symm n_14_2
    · exact absurd e m4.2
    · exact absurd e n_4_1
    · exact absurd e n_4_2
    · rfl
    · exact absurd e.symm n_5_4
    · exact absurd e.symm n_8_4
    · exact absurd e.symm n_9_4
    · exact absurd e.symm n_11_4
    · exact absurd e.symm n_12_4
    · exact absurd e.symm n_14_4
    · exact absurd e m5.2
    · exact absurd e n_5_1
    · exact absurd e n_5_2
    · exact absurd e n_5_4
    · rfl
    · exact absurd e.symm n_8_5
    · exact absurd e.symm n_9_5
    · exact absurd e.symm n_11_5
    · exact absurd e.symm n_12_5
    · exact absurd e.symm n_14_5
    · exact absurd e m8.2
    · exact absurd e n_8_1
    · exact absurd e n_8_2
    · exact absurd e n_8_4
    · exact absurd e n_8_5
    · rfl
    · exact absurd e.symm n_9_8
    · exact absurd e.symm n_11_8
    · exact absurd e.symm n_12_8
    · exact absurd e.symm n_14_8
    · exact absurd e m9.2
    · exact absurd e n_9_1
    · exact absurd e n_9_2
    · exact absurd e n_9_4
    · exact absurd e n_9_5
    · exact absurd e n_9_8
    · rfl
    · exact absurd e.symm n_11_9
    · exact absurd e.symm n_12_9
    · exact absurd e.symm n_14_9
    · exact absurd e m11.2
    · exact absurd e n_11_1
    · exact absurd e n_11_2
    · exact absurd e n_11_4
    · exact absurd e n_11_5
    · exact absurd e n_11_8
    · exact absurd e n_11_9
    · rfl
    · exact absurd e.symm n_12_11
    · exact absurd e.symm n_14_11
    · exact absurd e m12.2
    · exact absurd e n_12_1
    · exact absurd e n_12_2
    · exact absurd e n_12_4
    · exact absurd e n_12_5
    · exact absurd e n_12_8
    · exact absurd e n_12_9
    · exact absurd e n_12_11
    · rfl
    · exact absurd e.symm n_14_12
    · exact absurd e m14.2
    · exact absurd e n_14_1
    · exact absurd e n_14_2
    · exact absurd e n_14_4
    · exact absurd e n_14_5
    · exact absurd e n_14_8
    · exact absurd e n_14_9
    · exact absurd e n_14_11
    · exact absurd e n_14_12
    · rfl
  refine ⟨A, hA, rfl, ?_⟩
  intro b x hb
  by_cases e0 : b = A 0
  · subst e0
    rw [tw_0] at hb
    rw [← hb]
    exact c1
  by_cases e1 : b = A 1
  · subst e1
    rw [tw_1 hA] at hb
    rw [← hb]
    exact m1.1
  by_cases e2 : b = A 2
  · subst e2
    rw [tw_2 hA] at hb
    rw [← hb]
    exact m2.1
  by_cases e4 : b = A 4
  · subst e4
    rw [tw_4 hA] at hb
    rw [← hb]
    exact m4.1
  by_cases e5 : b = A 5
  · subst e5
    rw [tw_5 hA] at hb
    rw [← hb]
    exact m5.1
  by_cases e8 : b = A 8
  · subst e8
    rw [tw_8 hA] at hb
    rw [← hb]
    exact m8.1
  by_cases e9 : b = A 9
  · subst e9
    rw [tw_9 hA] at hb
    rw [← hb]
    exact m9.1
  by_cases e11 : b = A 11
  · subst e11
    rw [tw_11 hA] at hb
    rw [← hb]
    exact m11.1
  by_cases e12 : b = A 12
  · subst e12
    rw [tw_12 hA] at hb
    rw [← hb]
    exact m12.1
  by_cases e14 : b = A 14
  · subst e14
    rw [tw_14 hA] at hb
    rw [← hb]
    exact m14.1
  unfold twO at hb
  rw [if_neg e0, if_neg e1, if_neg e2, if_neg e4, if_neg e5, if_neg e8, if_neg e9, if_neg e11, if_neg e12, if_neg e14] at hb
  exact c4 b x hb e0
abbrev mX3_init : GM := (yX3_init, 2, none, [], { frames := 1, cells := 9, slots := 1303, locals := 30 }, 255)
theorem kX3_init : gCi cX3_init mX3_init 0 := ⟨q2095, q90, q2096, ⟨by decide +kernel, by decide +kernel, by decide +kernel⟩, rfl, rfl, rfl⟩
set_option maxHeartbeats 400000 in
theorem ctX3_init {E : GE} {h : AH} (a : Nat) (ha : h a = some (5, gO 2 [.int 0, .null, .null, .int 0, .null, .null, .int 0, .int 0, .null, .null, .int 0, .null, .null, .int 0, .null, .int 0, .int 0, .int 0, .int 0, .int 0, .int 0, .int 0])) : Ct E cX3_init mX3_init [.ref a] h (pV fun h' => ∃ A, twA A ∧ A 0 = a ∧ h' = twO E A twI h) noX := by
  refine g_enter (own := "SecretVaultModel") [some (.ref a), none] (by decide +kernel) rfl rfl (Nat.le_of_ble_eq_true rfl) rfl rfl (fun X => ?_)
  have C := CI.nil ha
  refine g_aload0 dX3_init_0 ?_
  refine g_objInit q2097 q129 q130 dX3_init_1 (by decide) (Nat.le_of_ble_eq_true rfl) ?_
  refine g_aload0 dX3_init_4 ?_
  refine g_sipush (nI 534) dX3_init_5 (by decide) ?_
  refine g_newi (N := 534) 5 q162 (by decide) (by decide +kernel) (by decide) (by decide) (by decide) dX3_init_8 (fun q1 hq1 => ?_)
  replace C := C.new (e := gAI E 534 (fun _ => 0)) hq1
  refine g_putF (k0 := 1) C.1 in_X3 q2099 tyX3_ok nmX3 rfl (by decide) rfl rfl rfl (by rfl) (by rfl) (Nat.le_of_ble_eq_true rfl) dX3_init_10 ?_
  replace C := C.put (gO 2 [.int 0, .ref q1, .null, .int 0, .null, .null, .int 0, .int 0, .null, .null, .int 0, .null, .null, .int 0, .null, .int 0, .int 0, .int 0, .int 0, .int 0, .int 0, .int 0])
  refine g_aload0 dX3_init_13 ?_
  refine g_sipush (nI 534) dX3_init_14 (by decide) ?_
  refine g_newi (N := 534) 5 q162 (by decide) (by decide +kernel) (by decide) (by decide) (by decide) dX3_init_17 (fun q2 hq2 => ?_)
  replace C := C.new (e := gAI E 534 (fun _ => 0)) hq2
  refine g_putF (k0 := 2) C.1 in_X3 q2100 tyX3_ok nmX3 rfl (by decide) rfl rfl rfl (by rfl) (by rfl) (Nat.le_of_ble_eq_true rfl) dX3_init_19 ?_
  replace C := C.put (gO 2 [.int 0, .ref q1, .ref q2, .int 0, .null, .null, .int 0, .int 0, .null, .null, .int 0, .null, .null, .int 0, .null, .int 0, .int 0, .int 0, .int 0, .int 0, .int 0, .int 0])
  refine g_aload0 dX3_init_22 ?_
  refine g_bipush (nI 8) dX3_init_23 (by decide) ?_
  refine g_newi (N := 8) 5 q162 (by decide) (by decide +kernel) (by decide) (by decide) (by decide) dX3_init_25 (fun q4 hq4 => ?_)
  replace C := C.new (e := gAI E 8 (fun _ => 0)) hq4
  refine g_putF (k0 := 4) C.1 in_X3 q2102 tyX3_ok nmX3 rfl (by decide) rfl rfl rfl (by rfl) (by rfl) (Nat.le_of_ble_eq_true rfl) dX3_init_27 ?_
  replace C := C.put (gO 2 [.int 0, .ref q1, .ref q2, .int 0, .ref q4, .null, .int 0, .int 0, .null, .null, .int 0, .null, .null, .int 0, .null, .int 0, .int 0, .int 0, .int 0, .int 0, .int 0, .int 0])
  refine g_aload0 dX3_init_30 ?_
  refine g_bipush (nI 24) dX3_init_31 (by decide) ?_
  refine g_newi (N := 24) 5 q162 (by decide) (by decide +kernel) (by decide) (by decide) (by decide) dX3_init_33 (fun q5 hq5 => ?_)
  replace C := C.new (e := gAI E 24 (fun _ => 0)) hq5
  refine g_putF (k0 := 5) C.1 in_X3 q2103 tyX3_ok nmX3 rfl (by decide) rfl rfl rfl (by rfl) (by rfl) (Nat.le_of_ble_eq_true rfl) dX3_init_35 ?_
  replace C := C.put (gO 2 [.int 0, .ref q1, .ref q2, .int 0, .ref q4, .ref q5, .int 0, .int 0, .null, .null, .int 0, .null, .null, .int 0, .null, .int 0, .int 0, .int 0, .int 0, .int 0, .int 0, .int 0])
  refine g_aload0 dX3_init_38 ?_
  refine g_bipush (nI 30) dX3_init_39 (by decide) ?_
  refine g_newi (N := 30) 5 q162 (by decide) (by decide +kernel) (by decide) (by decide) (by decide) dX3_init_41 (fun q8 hq8 => ?_)
  replace C := C.new (e := gAI E 30 (fun _ => 0)) hq8
  refine g_putF (k0 := 8) C.1 in_X3 q2105 tyX3_ok nmX3 rfl (by decide) rfl rfl rfl (by rfl) (by rfl) (Nat.le_of_ble_eq_true rfl) dX3_init_43 ?_
  replace C := C.put (gO 2 [.int 0, .ref q1, .ref q2, .int 0, .ref q4, .ref q5, .int 0, .int 0, .ref q8, .null, .int 0, .null, .null, .int 0, .null, .int 0, .int 0, .int 0, .int 0, .int 0, .int 0, .int 0])
  refine g_aload0 dX3_init_46 ?_
  refine g_bipush (nI 30) dX3_init_47 (by decide) ?_
  refine g_newi (N := 30) 5 q162 (by decide) (by decide +kernel) (by decide) (by decide) (by decide) dX3_init_49 (fun q9 hq9 => ?_)
  replace C := C.new (e := gAI E 30 (fun _ => 0)) hq9
  refine g_putF (k0 := 9) C.1 in_X3 q2106 tyX3_ok nmX3 rfl (by decide) rfl rfl rfl (by rfl) (by rfl) (Nat.le_of_ble_eq_true rfl) dX3_init_51 ?_
  replace C := C.put (gO 2 [.int 0, .ref q1, .ref q2, .int 0, .ref q4, .ref q5, .int 0, .int 0, .ref q8, .ref q9, .int 0, .null, .null, .int 0, .null, .int 0, .int 0, .int 0, .int 0, .int 0, .int 0, .int 0])
  refine g_aload0 dX3_init_54 ?_
  refine g_iconst (nI 3) dX3_init_55 (by decide) ?_
  refine g_newi (N := 3) 5 q162 (by decide) (by decide +kernel) (by decide) (by decide) (by decide) dX3_init_56 (fun q11 hq11 => ?_)
  replace C := C.new (e := gAI E 3 (fun _ => 0)) hq11
  refine g_putF (k0 := 11) C.1 in_X3 q2108 tyX3_ok nmX3 rfl (by decide) rfl rfl rfl (by rfl) (by rfl) (Nat.le_of_ble_eq_true rfl) dX3_init_58 ?_
  replace C := C.put (gO 2 [.int 0, .ref q1, .ref q2, .int 0, .ref q4, .ref q5, .int 0, .int 0, .ref q8, .ref q9, .int 0, .ref q11, .null, .int 0, .null, .int 0, .int 0, .int 0, .int 0, .int 0, .int 0, .int 0])
  refine g_aload0 dX3_init_61 ?_
  refine g_bipush (nI 100) dX3_init_62 (by decide) ?_
  refine g_newc (N := 100) 5 q2164 (by decide) (by decide +kernel) (by decide) (by decide) (by decide) dX3_init_64 (fun q12 hq12 => ?_)
  replace C := C.new (e := gAC E 100 (fun _ => 0)) hq12
  refine g_putF (k0 := 12) C.1 in_X3 q2109 tyX3_ok nmX3 rfl (by decide) rfl rfl rfl (by rfl) (by rfl) (Nat.le_of_ble_eq_true rfl) dX3_init_66 ?_
  replace C := C.put (gO 2 [.int 0, .ref q1, .ref q2, .int 0, .ref q4, .ref q5, .int 0, .int 0, .ref q8, .ref q9, .int 0, .ref q11, .ref q12, .int 0, .null, .int 0, .int 0, .int 0, .int 0, .int 0, .int 0, .int 0])
  refine g_aload0 dX3_init_69 ?_
  refine g_bipush (nI 40) dX3_init_70 (by decide) ?_
  refine g_newc (N := 40) 5 q2164 (by decide) (by decide +kernel) (by decide) (by decide) (by decide) dX3_init_72 (fun q14 hq14 => ?_)
  replace C := C.new (e := gAC E 40 (fun _ => 0)) hq14
  refine g_putF (k0 := 14) C.1 in_X3 q2111 tyX3_ok nmX3 rfl (by decide) rfl rfl rfl (by rfl) (by rfl) (Nat.le_of_ble_eq_true rfl) dX3_init_74 ?_
  replace C := C.put (gO 2 [.int 0, .ref q1, .ref q2, .int 0, .ref q4, .ref q5, .int 0, .int 0, .ref q8, .ref q9, .int 0, .ref q11, .ref q12, .int 0, .ref q14, .int 0, .int 0, .int 0, .int 0, .int 0, .int 0, .int 0])
  refine g_aload0 dX3_init_77 ?_
  refine g_iconst (nI 4294967295) dX3_init_78 (by decide) ?_
  refine g_put (k0 := 16) C.1 in_X3 q2113 tyX3_ok nmX3 rfl (by decide) rfl (by rfl) (by rfl) (Nat.le_of_ble_eq_true rfl) dX3_init_79 ?_
  replace C := C.put (gO 2 [.int 0, .ref q1, .ref q2, .int 0, .ref q4, .ref q5, .int 0, .int 0, .ref q8, .ref q9, .int 0, .ref q11, .ref q12, .int 0, .ref q14, .int 0, .int (nI 4294967295), .int 0, .int 0, .int 0, .int 0, .int 0])
  obtain ⟨A, hA, rfl, hsub⟩ := tw_born (E := E) C
  refine V.sub hsub ?_
  have L : ∀ m, 0 ≤ m → m ≤ 8 → V E cX3_init "SecretVaultModel" mX3_init (pV fun h' => ∃ A', twA A' ∧ A' 0 = A 0 ∧ h' = twO E A' twI h) noX X (twO E A (twS m) h) 9 1303 91 [some (.ref (A 0)), some (.int (nI (m)))] [] := by
    refine g_for _ 0 8 ?_ ?_
    · refine g_iload1 dX3_init_91 ?_
      refine g_bipush (nI 8) dX3_init_92 (by decide) ?_
      first | refine g_icmpN_ge (tgt := 122) dX3_init_94 (by decide) (by omega) (by omega) (fun c_94 => ?_) (fun c_94 => ?_) | refine g_icmp_ge (tgt := 122) dX3_init_94 (by decide) (fun c_94 => ?_) (fun c_94 => ?_)
      · exact g_vret dX3_init_122 rfl ⟨rfl, A, hA, rfl, rfl⟩
      · omega
    · intro m h0 hm ih
      refine g_iload1 dX3_init_91 ?_
      refine g_bipush (nI 8) dX3_init_92 (by decide) ?_
      first | refine g_icmpN_ge (tgt := 122) dX3_init_94 (by decide) (by omega) (by omega) (fun c_94 => ?_) (fun c_94 => ?_) | refine g_icmp_ge (tgt := 122) dX3_init_94 (by decide) (fun c_94 => ?_) (fun c_94 => ?_)
      · omega
      · first | refine g_aload0 dX3_init_97 ?_ | refine g_aloadQ0 dX3_init_97 ?_ | refine g_aloadN0 dX3_init_97 ?_
        refine t_get1 hA q2099 dX3_init_98 ?_
        refine g_iconst (nI 1) dX3_init_101 (by decide) ?_
        refine g_iload1 dX3_init_102 ?_
        first | refine g_iaddN dX3_init_103 ?_ | refine g_iadd dX3_init_103 ?_
        refine g_iconst (nI 1) dX3_init_104 (by decide) ?_
        refine t_ast1 hA (by omega) dX3_init_105 ?_
        first | refine g_aload0 dX3_init_106 ?_ | refine g_aloadQ0 dX3_init_106 ?_ | refine g_aloadN0 dX3_init_106 ?_
        refine t_get1 hA q2099 dX3_init_107 ?_
        refine g_bipush (nI 9) dX3_init_110 (by decide) ?_
        refine g_iload1 dX3_init_112 ?_
        first | refine g_iaddN dX3_init_113 ?_ | refine g_iadd dX3_init_113 ?_
        refine g_iconst (nI 1) dX3_init_114 (by decide) ?_
        refine t_ast1 hA (by omega) dX3_init_115 ?_
        first | refine g_iincN1 1 dX3_init_116 (by decide) (by decide) ?_ | refine g_iinc1 _ dX3_init_116 rfl (by decide) ?_
        refine g_goto (tgt := 91) dX3_init_119 (by decide) ?_
        exact ih
  first | refine g_aload0 dX3_init_82 ?_ | refine g_aloadQ0 dX3_init_82 ?_ | refine g_aloadN0 dX3_init_82 ?_
  refine t_get1 hA q2099 dX3_init_83 ?_
  refine g_iconst (nI 0) dX3_init_86 (by decide) ?_
  refine g_iconst (nI 1) dX3_init_87 (by decide) ?_
  refine t_ast1 hA (by omega) dX3_init_88 ?_
  refine g_iconst (nI 0) dX3_init_89 (by decide) ?_
  refine g_istore1 dX3_init_90 (by decide) ?_
  exact L 0 (by omega) (by omega)
